section
/-! ===== Int32 by its bits (began as rows of laws/BITS.to-paste) ===== -/
def tb_b (x : Int32) (i : Nat) : Bool := x.toBitVec.getLsbD i
theorem tb_ext {x y : Int32} (h : ∀ i, i < 32 → tb_b x i = tb_b y i) : x = y := Int32.toBitVec_inj.mp (BitVec.eq_of_getLsbD_eq (fun i hi => h i hi))
theorem tb_or (x y : Int32) (i : Nat) : tb_b (x ||| y) i = (tb_b x i || tb_b y i) := by unfold tb_b; rw [Int32.toBitVec_or, BitVec.getLsbD_or]
theorem tb_and (x y : Int32) (i : Nat) : tb_b (x &&& y) i = (tb_b x i && tb_b y i) := by unfold tb_b; rw [Int32.toBitVec_and, BitVec.getLsbD_and]
theorem tb_xor (x y : Int32) (i : Nat) : tb_b (x ^^^ y) i = (tb_b x i ^^ tb_b y i) := by unfold tb_b; rw [Int32.toBitVec_xor, BitVec.getLsbD_xor]
theorem tb_big {x : Int32} {i : Nat} (h : 32 ≤ i) : tb_b x i = false := BitVec.getLsbD_of_ge _ _ h
theorem tb_m1 : ∀ i, i < 32 → tb_b (-1) i = true := by decide +kernel
theorem tb_1 : ∀ i, i < 32 → tb_b 1 i = decide (i = 0) := by decide +kernel
theorem tb_0 (i : Nat) : tb_b 0 i = false := BitVec.getLsbD_zero
theorem tb_sl : ∀ n, n < 32 → ((nI n &&& 31).toBitVec.smod 32).toNat = n := by decide +kernel
theorem tb_shl (n : Nat) (hn : n < 32) (x : Int32) {i : Nat} (hi : i < 32) : tb_b (x <<< (nI n &&& 31)) i = (decide (n ≤ i) && tb_b x (i - n)) := by
  unfold tb_b
  rw [Int32.toBitVec_shiftLeft]
  show (x.toBitVec <<< ((nI n &&& 31).toBitVec.smod 32).toNat).getLsbD i = _
  rw [tb_sl n hn, BitVec.getLsbD_shiftLeft]
  rcases Nat.lt_or_ge i n with h | h
  · simp [h, Nat.not_le.mpr h]
  · simp [hi, h, Nat.not_lt.mpr h]
theorem tb_sshr (n : Nat) (hn : n < 32) (x : Int32) {i : Nat} (hi : i < 32) : tb_b (x >>> (nI n &&& 31)) i = if n + i < 32 then tb_b x (n + i) else tb_b x 31 := by
  unfold tb_b
  rw [Int32.toBitVec_shiftRight]
  show (x.toBitVec.sshiftRight ((nI n &&& 31).toBitVec.smod 32).toNat).getLsbD i = _
  rw [tb_sl n hn, BitVec.getLsbD_sshiftRight, BitVec.msb_eq_getLsbD_last]
  simp [hi]
theorem tb_not (x : Int32) {i : Nat} (hi : i < 32) : tb_b (x ^^^ (-1)) i = !tb_b x i := by
  rw [tb_xor, tb_m1 i hi]
  cases tb_b x i <;> rfl
/-- the lowest bit of a word -/
theorem tb_low (x : Int32) : x &&& 1 = if tb_b x 0 = true then 1 else 0 := by
  apply tb_ext
  intro i hi
  rw [tb_and, tb_1 i hi]
  by_cases h0 : i = 0
  · subst h0
    cases hb : tb_b x 0
    · exact (tb_0 0).symm
    · exact (tb_1 0 (by decide)).symm
  · rw [decide_eq_false h0, Bool.and_false]
    cases hb : tb_b x 0
    · exact (tb_0 i).symm
    · exact ((tb_1 i hi).trans (decide_eq_false h0)).symm
/-- one bit taken out by a shift -/
theorem tb_bit (n : Nat) (hn : n < 32) (x : Int32) : (x >>> (nI n &&& 31)) &&& 1 = if tb_b x n = true then 1 else 0 := by
  rw [tb_low, tb_sshr n hn x (by decide)]
  rw [if_pos (show n + 0 < 32 by omega)]
  rfl
theorem tb_and31 (v : Int32) : v &&& 31 = nI (v.toBitVec.toNat % 32) &&& 31 := by
  have h := pk_and v (m := 31) 5 (by decide)
  have h2 := pk_andN (n := v.toBitVec.toNat % 32) (by omega) (m := 31) 5 (by decide)
  rw [h, h2]
  show nI (v.toBitVec.toNat % 32) = nI (v.toBitVec.toNat % 32 % 32)
  rw [Nat.mod_mod]
/-- the same for any count -/
theorem tb_bitv (v x : Int32) : (x >>> (v &&& 31)) &&& 1 = if tb_b x (v.toBitVec.toNat % 32) = true then 1 else 0 := by
  rw [tb_and31 v]
  exact tb_bit _ (by omega) x
theorem tb_one (n : Nat) (hn : n < 32) {i : Nat} (hi : i < 32) : tb_b ((1 : Int32) <<< (nI n &&& 31)) i = decide (i = n) := by
  rw [tb_shl n hn 1 hi]
  by_cases h : n ≤ i
  · rw [tb_1 (i - n) (by omega), decide_eq_true h, Bool.true_and]
    by_cases e : i = n
    · rw [decide_eq_true e, decide_eq_true (by omega)]
    · rw [decide_eq_false e, decide_eq_false (by omega)]
  · rw [decide_eq_false h, Bool.false_and, decide_eq_false (by omega)]
/-- a word is 0: no bit -/
theorem tb_zero {x : Int32} : x = 0 ↔ ∀ i, i < 32 → tb_b x i = false := by
  constructor
  · intro h i _
    rw [h]
    exact tb_0 i
  · intro h
    exact tb_ext (fun i hi => (h i hi).trans (tb_0 i).symm)
theorem tb_nz {x : Int32} (h : ¬ x = 0) : ∃ i, i < 32 ∧ tb_b x i = true := by
  apply Classical.byContradiction
  intro hn
  apply h
  rw [tb_zero]
  intro i hi
  cases hb : tb_b x i
  · rfl
  · exact absurd ⟨i, hi, hb⟩ hn
theorem tb_has {x : Int32} {i : Nat} (hi : i < 32) (h : tb_b x i = true) : ¬ x = 0 := by
  intro e
  rw [e, tb_0] at h
  exact absurd h (by decide)
/-- is the one bit there -/
theorem tb_mask (n : Nat) (hn : n < 32) (x : Int32) : x &&& ((1 : Int32) <<< (nI n &&& 31)) = 0 ↔ tb_b x n = false := by
  constructor
  · intro h
    have := tb_zero.mp h n hn
    rw [tb_and, tb_one n hn hn, decide_eq_true rfl, Bool.and_true] at this
    exact this
  · intro h
    rw [tb_zero]
    intro i hi
    rw [tb_and, tb_one n hn hi]
    by_cases e : i = n
    · rw [e, h, Bool.false_and]
    · rw [decide_eq_false e, Bool.and_false]
/-- all bits of x are bits of y -/
def tb_sub (x y : Int32) : Bool := decide (x &&& (y ^^^ (-1)) = 0)
theorem tb_sub_iff {x y : Int32} : tb_sub x y = true ↔ ∀ i, i < 32 → tb_b x i = true → tb_b y i = true := by
  unfold tb_sub
  rw [decide_eq_true_iff, tb_zero]
  constructor
  · intro h i hi hx
    have := h i hi
    rw [tb_and, tb_not y hi, hx] at this
    cases hy : tb_b y i
    · rw [hy] at this
      exact absurd this (by decide)
    · rfl
  · intro h i hi
    rw [tb_and, tb_not y hi]
    cases hx : tb_b x i
    · rfl
    · rw [h i hi hx]
      rfl
theorem tb_sub_refl (x : Int32) : tb_sub x x = true := tb_sub_iff.mpr (fun _ _ h => h)
theorem tb_sub_trans {x y z : Int32} (h : tb_sub x y = true) (h' : tb_sub y z = true) : tb_sub x z = true :=
  tb_sub_iff.mpr (fun i hi hx => tb_sub_iff.mp h' i hi (tb_sub_iff.mp h i hi hx))
theorem tb_sub_and {x y : Int32} (a : Int32) (h : tb_sub x y = true) : tb_sub (x &&& a) (y &&& a) = true := by
  rw [tb_sub_iff] at h ⊢
  intro i hi hx
  rw [tb_and, Bool.and_eq_true] at hx ⊢
  exact ⟨h i hi hx.1, hx.2⟩
theorem tb_sub_less (x a : Int32) : tb_sub (x &&& a) x = true := by
  rw [tb_sub_iff]
  intro i hi hx
  rw [tb_and, Bool.and_eq_true] at hx
  exact hx.1
theorem tb_sub_nz {x y : Int32} (h : tb_sub x y = true) (hx : ¬ x = 0) : ¬ y = 0 := by
  obtain ⟨i, hi, hb⟩ := tb_nz hx
  exact tb_has hi (tb_sub_iff.mp h i hi hb)
theorem tb_sub_bit {x y : Int32} (v : Int32) (h : tb_sub x y = true) (hx : (x >>> (v &&& 31)) &&& 1 = 1) : (y >>> (v &&& 31)) &&& 1 = 1 := by
  rw [tb_bitv] at hx ⊢
  by_cases hb : tb_b x (v.toBitVec.toNat % 32) = true
  · rw [if_pos (tb_sub_iff.mp h _ (by omega) hb)]
  · rw [if_neg hb] at hx
    exact absurd hx (by decide)
end
section
/-! ===== the search, purely =====
Q i: the class's array i (1 issuerName, 2 issuerKey, 3 subjectName, 4 subjectKey, 5 goodFrom, 6 goodTo, 7 settings, 8 revokedFrom, 10 anchors); h: isHeld.
A state: certificate + 1 (0: the root), free names, how many may come, policies, the place of the state before. -/
abbrev tp_S : Type := Nat × Int32 × Nat × Int32 × Nat
def tp_root : tp_S := (0, 255, 4, 15, 0)
/-- good at a time t, one (w = c + 1; 0: none) left out -/
def tp_gd (Q : Nat → Nat → Int32) (h : Nat → Int32) (t : Int32) (w : Nat) (c : Nat) : Bool :=
  decide (¬ c + 1 = w) && (decide (h c = 0) && (decide (¬ t < Q 5 c) && (decide (¬ Q 6 c < t) && decide (¬ Q 8 c ≤ t))))
def tp_own (Q : Nat → Nat → Int32) (c : Nat) : Bool := decide (Q 1 c = Q 3 c)
def tp_an (Q : Nat → Nat → Int32) (c : Nat) : Bool :=
  decide (Q 10 0 = (10 * Q 1 c) + Q 2 c) || (decide (Q 10 1 = (10 * Q 1 c) + Q 2 c) || decide (Q 10 2 = (10 * Q 1 c) + Q 2 c))
def tp_sg (Q : Nat → Nat → Int32) (c : Nat) (s : tp_S) : Bool :=
  if s.1 = 0 then tp_an Q c else decide (Q 1 c = Q 3 (s.1 - 1)) && decide (Q 2 c = Q 4 (s.1 - 1))
def tp_op (Q : Nat → Nat → Int32) (c : Nat) (s : tp_S) : Bool := decide ((s.2.1 >>> (Q 3 c &&& 31)) &&& 1 = 1)
def tp_cm (Q : Nat → Nat → Int32) (c : Nat) (s : tp_S) : Int32 := s.2.2.2.1 &&& Q 7 (5 * c + 4)
def tp_ew (Q : Nat → Nat → Int32) (g : Nat → Bool) (c : Nat) (s : tp_S) : Bool :=
  g c && (tp_sg Q c s && (tp_op Q c s && decide (¬ tp_cm Q c s = 0)))
def tp_ok (Q : Nat → Nat → Int32) (g : Nat → Bool) (c : Nat) (s : tp_S) : Bool :=
  decide (¬ Q 7 (5 * c) = 0) && (g c && (tp_sg Q c s && (decide (¬ tp_cm Q c s = 0) && (tp_own Q c || (decide (¬ s.2.2.1 = 0) && tp_op Q c s)))))
def tp_lf (Q : Nat → Nat → Int32) (c : Nat) (m : Nat) : Nat := if tp_own Q c = true ∨ m = 4 then m else m - 1
def tp_nm (Q : Nat → Nat → Int32) (c : Nat) (s : tp_S) : Int32 := (s.2.1 &&& Q 7 (5 * c + 2)) &&& (Q 7 (5 * c + 3) ^^^ (-1))
def tp_nx (Q : Nat → Nat → Int32) (c p : Nat) (s : tp_S) : tp_S :=
  (c + 1, tp_nm Q c s, min (Q 7 (5 * c + 1)).toNatClampNeg (tp_lf Q c s.2.2.1), tp_cm Q c s, p)
/-- s leaves no more than s' -/
def tp_le (s s' : tp_S) : Bool := tb_sub s.2.1 s'.2.1 && (tb_sub s.2.2.2.1 s'.2.2.2.1 && decide (s.2.2.1 ≤ s'.2.2.1))
def tp_bt (s s' : tp_S) : Bool := decide (s'.1 = s.1) && tp_le s s'
/-- one extension -/
def tp_ex (Q : Nat → Nat → Int32) (g : Nat → Bool) (c p : Nat) (l : List tp_S) : List tp_S :=
  match l[p]? with
  | none => l
  | some s => if tp_ok Q g c s = true ∧ l.length < 1025 ∧ l.any (tp_bt (tp_nx Q c p s)) = false then l ++ [tp_nx Q c p s] else l
/-- k steps of a round that begins at place b -/
def tp_rd (Q : Nat → Nat → Int32) (g : Nat → Bool) (n b : Nat) : Nat → List tp_S → List tp_S
  | 0 => fun l => l
  | k + 1 => fun l => tp_ex Q g (k % n) (b + k / n) (tp_rd Q g n b k l)
/-- i rounds: the states, and where the last round began -/
def tp_fs (Q : Nat → Nat → Int32) (g : Nat → Bool) (n : Nat) : Nat → List tp_S × Nat
  | 0 => ([tp_root], 0)
  | i + 1 => (tp_rd Q g n (tp_fs Q g n i).2 (((tp_fs Q g n i).1.length - (tp_fs Q g n i).2) * n) (tp_fs Q g n i).1, (tp_fs Q g n i).1.length)
def tp_all (Q : Nat → Nat → Int32) (g : Nat → Bool) (n : Nat) : List tp_S := (tp_fs Q g n 5).1

/-! ===== order ===== -/
theorem tp_le_iff {s s' : tp_S} : tp_le s s' = true ↔ tb_sub s.2.1 s'.2.1 = true ∧ tb_sub s.2.2.2.1 s'.2.2.2.1 = true ∧ s.2.2.1 ≤ s'.2.2.1 := by
  unfold tp_le
  rw [Bool.and_eq_true, Bool.and_eq_true, decide_eq_true_iff]
theorem tp_le_refl (s : tp_S) : tp_le s s = true := tp_le_iff.mpr ⟨tb_sub_refl _, tb_sub_refl _, Nat.le_refl _⟩
theorem tp_le_trans {s s' s'' : tp_S} (h : tp_le s s' = true) (h' : tp_le s' s'' = true) : tp_le s s'' = true := by
  rw [tp_le_iff] at h h' ⊢
  exact ⟨tb_sub_trans h.1 h'.1, tb_sub_trans h.2.1 h'.2.1, Nat.le_trans h.2.2 h'.2.2⟩
theorem tp_bt_iff {s s' : tp_S} : tp_bt s s' = true ↔ s'.1 = s.1 ∧ tp_le s s' = true := by
  unfold tp_bt
  rw [Bool.and_eq_true, decide_eq_true_iff]
theorem tp_lf_le (Q : Nat → Nat → Int32) (c m : Nat) : tp_lf Q c m ≤ m := by
  unfold tp_lf
  split <;> omega
theorem tp_lf_mono (Q : Nat → Nat → Int32) (c : Nat) {m m' : Nat} (h : m ≤ m') (h4 : m' ≤ 4) : tp_lf Q c m ≤ tp_lf Q c m' := by
  unfold tp_lf
  by_cases ho : tp_own Q c = true
  · rw [if_pos (Or.inl ho), if_pos (Or.inl ho)]
    exact h
  · by_cases e : m = 4
    · rw [if_pos (Or.inr e), if_pos (Or.inr (by omega))]
      exact h
    · rw [if_neg (fun z => z.elim ho e)]
      by_cases e' : m' = 4
      · rw [if_pos (Or.inr e')]
        omega
      · rw [if_neg (fun z => z.elim ho e')]
        omega
/-- what comes of a state leaves no more than the state -/
theorem tp_nx_le (Q : Nat → Nat → Int32) (c p : Nat) (s : tp_S) : tp_le (tp_nx Q c p s) s = true := by
  rw [tp_le_iff]
  refine ⟨?_, tb_sub_less _ _, ?_⟩
  · exact tb_sub_trans (tb_sub_less _ _) (tb_sub_less _ _)
  · exact Nat.le_trans (Nat.min_le_right _ _) (tp_lf_le Q c _)
theorem tp_nx_mono (Q : Nat → Nat → Int32) (c p p' : Nat) {s s' : tp_S} (h : tp_le s s' = true) (h4 : s'.2.2.1 ≤ 4) : tp_le (tp_nx Q c p s) (tp_nx Q c p' s') = true := by
  rw [tp_le_iff] at h ⊢
  refine ⟨tb_sub_and _ (tb_sub_and _ h.1), tb_sub_and _ h.2.1, ?_⟩
  have := tp_lf_mono Q c h.2.2 h4
  show min _ _ ≤ min _ _
  omega
theorem tp_nx_4 (Q : Nat → Nat → Int32) (c p : Nat) {s : tp_S} (h4 : s.2.2.1 ≤ 4) : (tp_nx Q c p s).2.2.1 ≤ 4 :=
  Nat.le_trans (Nat.min_le_right _ _) (Nat.le_trans (tp_lf_le Q c _) h4)
theorem tp_op_mono {Q : Nat → Nat → Int32} {c : Nat} {s s' : tp_S} (h : tp_le s s' = true) (ho : tp_op Q c s = true) : tp_op Q c s' = true := by
  unfold tp_op at ho ⊢
  rw [decide_eq_true_iff] at ho ⊢
  exact tb_sub_bit _ (tp_le_iff.mp h).1 ho
theorem tp_cm_mono {Q : Nat → Nat → Int32} {c : Nat} {s s' : tp_S} (h : tp_le s s' = true) (ho : ¬ tp_cm Q c s = 0) : ¬ tp_cm Q c s' = 0 :=
  tb_sub_nz (tb_sub_and _ (tp_le_iff.mp h).2.1) ho
theorem tp_ew_iff {Q : Nat → Nat → Int32} {g : Nat → Bool} {c : Nat} {s : tp_S} : tp_ew Q g c s = true ↔ g c = true ∧ tp_sg Q c s = true ∧ tp_op Q c s = true ∧ ¬ tp_cm Q c s = 0 := by
  unfold tp_ew
  rw [Bool.and_eq_true, Bool.and_eq_true, Bool.and_eq_true, decide_eq_true_iff]
theorem tp_ok_iff {Q : Nat → Nat → Int32} {g : Nat → Bool} {c : Nat} {s : tp_S} : tp_ok Q g c s = true ↔ ¬ Q 7 (5 * c) = 0 ∧ g c = true ∧ tp_sg Q c s = true ∧ ¬ tp_cm Q c s = 0 ∧ (tp_own Q c = true ∨ ¬ s.2.2.1 = 0 ∧ tp_op Q c s = true) := by
  unfold tp_ok
  rw [Bool.and_eq_true, Bool.and_eq_true, Bool.and_eq_true, Bool.and_eq_true, Bool.or_eq_true, Bool.and_eq_true, decide_eq_true_iff, decide_eq_true_iff, decide_eq_true_iff]
theorem tp_ok_mono {Q : Nat → Nat → Int32} {g g' : Nat → Bool} (hg : ∀ c, g c = true → g' c = true) {c : Nat} {s s' : tp_S} (h : tp_le s s' = true) (hs : tp_sg Q c s' = true) (ho : tp_ok Q g c s = true) : tp_ok Q g' c s' = true := by
  rw [tp_ok_iff] at ho ⊢
  refine ⟨ho.1, hg c ho.2.1, hs, tp_cm_mono h ho.2.2.2.1, ?_⟩
  rcases ho.2.2.2.2 with z | z
  · exact Or.inl z
  · refine Or.inr ⟨?_, tp_op_mono h z.2⟩
    have := (tp_le_iff.mp h).2.2
    omega
theorem tp_ew_mono {Q : Nat → Nat → Int32} {g g' : Nat → Bool} (hg : ∀ c, g c = true → g' c = true) {c : Nat} {s s' : tp_S} (h : tp_le s s' = true) (hs : tp_sg Q c s' = true) (ho : tp_ew Q g c s = true) : tp_ew Q g' c s' = true := by
  rw [tp_ew_iff] at ho ⊢
  exact ⟨hg c ho.1, hs, tp_op_mono h ho.2.2.1, tp_cm_mono h ho.2.2.2⟩
theorem tp_sg_k {Q : Nat → Nat → Int32} {c : Nat} {s s' : tp_S} (h : s'.1 = s.1) : tp_sg Q c s' = tp_sg Q c s := by
  unfold tp_sg
  rw [h]
/-- who signs depends on the issuer alone -/
theorem tp_sg_src {Q : Nat → Nat → Int32} {c e : Nat} {s : tp_S} (h1 : Q 1 c = Q 1 e) (h2 : Q 2 c = Q 2 e) : tp_sg Q c s = tp_sg Q e s := by
  unfold tp_sg tp_an
  rw [h1, h2]
end
section
/-! ===== how many walks there are whose sources differ ===== -/
def wk_src (Q : Nat → Nat → Int32) (c e : Nat) : Bool := decide (Q 1 c = Q 1 e) && decide (Q 2 c = Q 2 e)
theorem wk_src_iff {Q : Nat → Nat → Int32} {c e : Nat} : wk_src Q c e = true ↔ Q 1 c = Q 1 e ∧ Q 2 c = Q 2 e := by
  unfold wk_src
  rw [Bool.and_eq_true, decide_eq_true_iff, decide_eq_true_iff]
/-- e is signed by the certificate d -/
def wk_by (Q : Nat → Nat → Int32) (d e : Nat) : Bool := decide (Q 1 e = Q 3 d) && decide (Q 2 e = Q 4 d)
theorem wk_by_iff {Q : Nat → Nat → Int32} {d e : Nat} : wk_by Q d e = true ↔ Q 1 e = Q 3 d ∧ Q 2 e = Q 4 d := by
  unfold wk_by
  rw [Bool.and_eq_true, decide_eq_true_iff, decide_eq_true_iff]
/-- walks of at most k steps over the certificates A, the first one of those s takes -/
def wk_W (Q : Nat → Nat → Int32) : Nat → (Nat → Bool) → List Nat → List (List Nat)
  | 0 => fun _ _ => [[]]
  | k + 1 => fun s A => [] :: (A.filter s).flatMap (fun c => (wk_W Q k (wk_by Q c) (A.filter (fun e => !wk_src Q c e))).map (fun w => c :: w))
def wk_M (f : Nat → Nat) : Nat → Nat
  | 0 => f 0
  | d + 1 => max (wk_M f d) (f (d + 1))
theorem wk_M_le (f : Nat → Nat) : ∀ m d, d ≤ m → f d ≤ wk_M f m
  | 0, d, h => by
    rw [Nat.le_zero.mp h]
    exact Nat.le_refl _
  | m + 1, d, h => by
    show f d ≤ max (wk_M f m) (f (m + 1))
    by_cases e : d = m + 1
    · rw [e]
      exact Nat.le_max_right _ _
    · exact Nat.le_trans (wk_M_le f m d (by omega)) (Nat.le_max_left _ _)
def wk_T : Nat → Nat → Nat
  | 0 => fun _ => 1
  | k + 1 => fun m => 1 + wk_M (fun d => d * wk_T k (m - d)) m
theorem wk_T49 : wk_T 4 9 = 49 := by decide +kernel
theorem wk_fm {α β : Type} (f : α → List β) (B : Nat) : ∀ l : List α, (∀ a, a ∈ l → (f a).length ≤ B) → (l.flatMap f).length ≤ l.length * B
  | [], _ => Nat.zero_le _
  | a :: l, h => by
    rw [List.flatMap_cons, List.length_append, List.length_cons, Nat.succ_mul]
    have h1 := h a (List.mem_cons_self)
    have h2 := wk_fm f B l (fun b hb => h b (List.mem_cons_of_mem _ hb))
    omega
theorem wk_fil (p q : Nat → Bool) : ∀ l : List Nat, (∀ a, a ∈ l → p a = true → q a = true → False) → (l.filter p).length + (l.filter q).length ≤ l.length
  | [], _ => Nat.le_refl _
  | a :: l, h => by
    have ih := wk_fil p q l (fun b hb => h b (List.mem_cons_of_mem _ hb))
    have ha := h a (List.mem_cons_self)
    rw [List.filter_cons, List.filter_cons, List.length_cons]
    cases hp : p a <;> cases hq : q a
    · simp only [Bool.false_eq_true, if_false]
      omega
    · simp only [Bool.false_eq_true, if_false, if_true, List.length_cons]
      omega
    · simp only [Bool.false_eq_true, if_false, if_true, List.length_cons]
      omega
    · exact (ha hp hq).elim
theorem wk_len (Q : Nat → Nat → Int32) : ∀ (k : Nat) (s : Nat → Bool) (A : List Nat) (M : Nat), (∀ c e, s c = true → s e = true → wk_src Q c e = true) → A.length ≤ M → (wk_W Q k s A).length ≤ wk_T k M
  | 0, s, A, M, _, _ => Nat.le_refl 1
  | k + 1, s, A, M, hs, hA => by
    show (([] : List Nat) :: (A.filter s).flatMap (fun c => (wk_W Q k (wk_by Q c) (A.filter (fun e => !wk_src Q c e))).map (fun w => c :: w))).length ≤ 1 + wk_M (fun d => d * wk_T k (M - d)) M
    rw [List.length_cons]
    have hd : (A.filter s).length ≤ A.length := List.length_filter_le _ _
    have h1 : ((A.filter s).flatMap (fun c => (wk_W Q k (wk_by Q c) (A.filter (fun e => !wk_src Q c e))).map (fun w => c :: w))).length ≤ (A.filter s).length * wk_T k (M - (A.filter s).length) := by
      apply wk_fm
      intro c hc
      rw [List.length_map]
      apply wk_len Q k
      · intro a b ha hb
        rw [wk_by_iff] at ha hb
        rw [wk_src_iff]
        exact ⟨ha.1.trans hb.1.symm, ha.2.trans hb.2.symm⟩
      · have := wk_fil s (fun e => !wk_src Q c e) A (fun a _ h1 h2 => by
          have h3 := hs c a (List.mem_filter.mp hc).2 h1
          rw [h3] at h2
          exact absurd h2 (by decide))
        omega
    have h2 := wk_M_le (fun d => d * wk_T k (M - d)) M (A.filter s).length (by omega)
    have h3 : (A.filter s).length * wk_T k (M - (A.filter s).length) ≤ wk_M (fun d => d * wk_T k (M - d)) M := h2
    omega
/-- all walks of one to five steps (and the empty one) -/
def wk_all (Q : Nat → Nat → Int32) (n : Nat) : List (List Nat) :=
  [] :: (List.range n).flatMap (fun c => (wk_W Q 4 (wk_by Q c) ((List.range n).filter (fun e => !wk_src Q c e))).map (fun w => c :: w))
theorem wk_all_len (Q : Nat → Nat → Int32) {n : Nat} (hn : n ≤ 10) : (wk_all Q n).length ≤ 491 := by
  unfold wk_all
  rw [List.length_cons]
  have h1 : ((List.range n).flatMap (fun c => (wk_W Q 4 (wk_by Q c) ((List.range n).filter (fun e => !wk_src Q c e))).map (fun w => c :: w))).length ≤ (List.range n).length * 49 := by
    apply wk_fm
    intro c hc
    rw [List.length_map, ← wk_T49]
    apply wk_len Q 4
    · intro a b ha hb
      rw [wk_by_iff] at ha hb
      rw [wk_src_iff]
      exact ⟨ha.1.trans hb.1.symm, ha.2.trans hb.2.symm⟩
    · have h2 := wk_fil (fun e => wk_src Q c e) (fun e => !wk_src Q c e) (List.range n) (fun a _ h1 h2 => by
        rw [h1] at h2
        exact absurd h2 (by decide))
      have h3 : 0 < ((List.range n).filter (fun e => wk_src Q c e)).length :=
        List.length_pos_of_mem (List.mem_filter.mpr ⟨hc, wk_src_iff.mpr ⟨rfl, rfl⟩⟩)
      rw [List.length_range] at h2
      omega
  rw [List.length_range] at h1
  omega
/-- one step more at the end -/
theorem wk_snoc (Q : Nat → Nat → Int32) (c : Nat) : ∀ (w : List Nat) (k : Nat) (s : Nat → Bool) (A : List Nat), w ∈ wk_W Q k s A → w.length < k → c ∈ A → (∀ e, e ∈ w → wk_src Q e c = false) →
    (∀ d, w.getLast? = some d → wk_by Q d c = true) → (w = [] → s c = true) → w ++ [c] ∈ wk_W Q k s A
  | [], 0, s, A, _, h, _, _, _, _ => absurd h (by decide)
  | [], k + 1, s, A, _, _, hc, _, _, h0 => by
    refine List.mem_cons_of_mem _ (List.mem_flatMap.mpr ⟨c, List.mem_filter.mpr ⟨hc, h0 rfl⟩, List.mem_map.mpr ⟨[], ?_, rfl⟩⟩)
    cases k
    · exact List.mem_cons_self
    · exact List.mem_cons_self
  | a :: w, 0, s, A, _, h, _, _, _, _ => absurd h (by simp)
  | a :: w, k + 1, s, A, hw, hl, hc, hs, hb, _ => by
    rcases List.mem_cons.mp hw with e | hw
    · exact absurd e (by simp)
    · obtain ⟨a', ha', hw⟩ := List.mem_flatMap.mp hw
      obtain ⟨w', hw', e⟩ := List.mem_map.mp hw
      obtain ⟨rfl, rfl⟩ := List.cons.inj e
      refine List.mem_cons_of_mem _ (List.mem_flatMap.mpr ⟨a', ha', List.mem_map.mpr ⟨w' ++ [c], ?_, rfl⟩⟩)
      refine wk_snoc Q c w' k _ _ hw' (by rw [List.length_cons] at hl; omega) (List.mem_filter.mpr ⟨hc, ?_⟩) (fun e he => hs e (List.mem_cons_of_mem _ he)) (fun d hd => hb d ?_) (fun h0 => hb a' ?_)
      · rw [hs a' (List.mem_cons_self)]
        rfl
      · rw [List.getLast?_cons, hd]
        rfl
      · rw [h0]
        rfl
theorem wk_all_snoc (Q : Nat → Nat → Int32) {n c : Nat} (hc : c < n) {w : List Nat} (hw : w ∈ wk_all Q n) (hl : w.length < 5) (hs : ∀ e, e ∈ w → wk_src Q e c = false) (hb : ∀ d, w.getLast? = some d → wk_by Q d c = true) : w ++ [c] ∈ wk_all Q n := by
  have hcr : c ∈ List.range n := List.mem_range.mpr hc
  rcases List.mem_cons.mp hw with e | hw
  · rw [e]
    exact List.mem_cons_of_mem _ (List.mem_flatMap.mpr ⟨c, hcr, List.mem_map.mpr ⟨[], List.mem_cons_self, rfl⟩⟩)
  · obtain ⟨a, ha, hw⟩ := List.mem_flatMap.mp hw
    obtain ⟨w', hw', rfl⟩ := List.mem_map.mp hw
    refine List.mem_cons_of_mem _ (List.mem_flatMap.mpr ⟨a, ha, List.mem_map.mpr ⟨w' ++ [c], ?_, rfl⟩⟩)
    refine wk_snoc Q c w' 4 _ _ hw' (by rw [List.length_cons] at hl; omega) (List.mem_filter.mpr ⟨hcr, ?_⟩) (fun e he => hs e (List.mem_cons_of_mem _ he)) (fun d hd => hb d ?_) (fun h0 => hb a ?_)
    · rw [hs a (List.mem_cons_self)]
      rfl
    · rw [List.getLast?_cons, hd]
      rfl
    · rw [h0]
      rfl
/-- pigeons -/
theorem wk_pig {f : Nat → List Nat} {L : List (List Nat)} {m : Nat} (hi : ∀ i j, i < m → j < m → f i = f j → i = j) (hm : ∀ i, i < m → f i ∈ L) : m ≤ L.length := by
  have h1 : ((List.range m).map f).Nodup := by
    apply List.pairwise_map.mpr
    refine List.Pairwise.imp_of_mem (fun {a b} ha hb hab e => ?_) (List.nodup_range (n := m))
    exact hab (hi a b (List.mem_range.mp ha) (List.mem_range.mp hb) e)
  have h2 := List.Nodup.length_le_of_subset h1 (l₂ := L) (fun a ha => by
    obtain ⟨i, hi', rfl⟩ := List.mem_map.mp ha
    exact hm i (List.mem_range.mp hi'))
  rw [List.length_map, List.length_range] at h2
  exact h2
end
section
/-! ===== what holds of the states after the pairs p * n + c below m; P: the paths ===== -/
def tp_Inv (Q : Nat → Nat → Int32) (g : Nat → Bool) (n m : Nat) (l : List tp_S) (P : Nat → List Nat) : Prop :=
  l[0]? = some tp_root ∧ P 0 = [] ∧
  (∀ (j : Nat) (s : tp_S), l[j]? = some s → s.2.2.1 ≤ 4) ∧
  (∀ (j : Nat) (s : tp_S), l[j]? = some s → 0 < j → ∃ (p c : Nat) (s' : tp_S), c < n ∧ p < j ∧ p * n + c < m ∧ l[p]? = some s' ∧ tp_ok Q g c s' = true ∧ s = tp_nx Q c p s' ∧ P j = P p ++ [c]) ∧
  (∀ (p c : Nat) (s : tp_S), l[p]? = some s → c < n → p * n + c < m → tp_ok Q g c s = true → ∃ s' : tp_S, s' ∈ l ∧ tp_bt (tp_nx Q c p s) s' = true) ∧
  (∀ i j, i < l.length → j < l.length → P i = P j → i = j) ∧
  (∀ j, j < l.length → P j ∈ wk_all Q n)
theorem tp_lt {l : List tp_S} {j : Nat} {s : tp_S} (h : l[j]? = some s) : j < l.length := (List.getElem?_eq_some_iff.mp h).1
theorem tp_at {l : List tp_S} {j : Nat} (h : j < l.length) : ∃ s, l[j]? = some s := ⟨l[j], List.getElem?_eq_getElem h⟩
theorem tp_app {l r : List tp_S} {j : Nat} {s : tp_S} (h : l[j]? = some s) : (l ++ r)[j]? = some s := by
  rw [List.getElem?_append_left (tp_lt h)]
  exact h
theorem tp_app' {l r : List tp_S} {j : Nat} {s : tp_S} (hj : j < l.length) (h : (l ++ r)[j]? = some s) : l[j]? = some s := by
  rw [List.getElem?_append_left hj] at h
  exact h
theorem tp_pair {n p p' c c' : Nat} (hc : c < n) (hc' : c' < n) (h : p' * n + c' = p * n + c) : p' = p ∧ c' = c := by
  have h1 : p' = p := by
    rcases Nat.lt_trichotomy p' p with z | z | z
    · have : (p' + 1) * n ≤ p * n := Nat.mul_le_mul_right n z
      rw [Nat.succ_mul] at this
      omega
    · exact z
    · have : (p + 1) * n ≤ p' * n := Nat.mul_le_mul_right n z
      rw [Nat.succ_mul] at this
      omega
  subst h1
  exact ⟨rfl, by omega⟩
theorem tp_pairlt {n p p' c : Nat} (hc : c < n) (h : p' < p) : p' * n + c < p * n := by
  have : (p' + 1) * n ≤ p * n := Nat.mul_le_mul_right n h
  rw [Nat.succ_mul] at this
  omega
theorem tp_bound {Q : Nat → Nat → Int32} {g : Nat → Bool} {n m : Nat} {l : List tp_S} {P : Nat → List Nat} (hn : n ≤ 10) (hI : tp_Inv Q g n m l P) : l.length ≤ 491 :=
  Nat.le_trans (wk_pig hI.2.2.2.2.2.1 hI.2.2.2.2.2.2) (wk_all_len Q hn)
/-- each certificate of a path comes behind a state that leaves more -/
theorem tp_anc {Q : Nat → Nat → Int32} {g : Nat → Bool} {n m : Nat} {l : List tp_S} {P : Nat → List Nat} (hI : tp_Inv Q g n m l P) : ∀ j s, l[j]? = some s → ∀ e, e ∈ P j → ∃ b sb, b < j ∧ l[b]? = some sb ∧ tp_sg Q e sb = true ∧ tp_le s sb = true := by
  intro j
  induction j using Nat.strongRecOn with
  | _ j ih =>
    intro s hs e he
    by_cases h0 : j = 0
    · rw [h0, hI.2.1] at he
      exact absurd he (by simp)
    · obtain ⟨p, c, s', hc, hp, hm, hl, hok, hsn, hP⟩ := hI.2.2.2.1 j s hs (by omega)
      have hle : tp_le s s' = true := by rw [hsn]; exact tp_nx_le Q c p s'
      rw [hP] at he
      rcases List.mem_append.mp he with he | he
      · obtain ⟨b, sb, h1, h2, h3, h4⟩ := ih p hp s' hl e he
        exact ⟨b, sb, by omega, h2, h3, tp_le_trans hle h4⟩
      · have : e = c := by simpa using he
        rw [this]
        exact ⟨p, s', hp, hl, (tp_ok_iff.mp hok).2.2.1, hle⟩
theorem tp_lastk {Q : Nat → Nat → Int32} {g : Nat → Bool} {n m : Nat} {l : List tp_S} {P : Nat → List Nat} (hI : tp_Inv Q g n m l P) {j : Nat} {s : tp_S} (hs : l[j]? = some s) {d : Nat} (hd : (P j).getLast? = some d) : s.1 = d + 1 := by
  by_cases h0 : j = 0
  · rw [h0, hI.2.1] at hd
    exact absurd hd (by simp)
  · obtain ⟨p, c, s', hc, hp, hm, hl, hok, hsn, hP⟩ := hI.2.2.2.1 j s hs (by omega)
    rw [hP, List.getLast?_append, List.getLast?_singleton] at hd
    have : c = d := by simpa using hd
    rw [hsn, ← this]
    rfl
theorem tp_weak {Q : Nat → Nat → Int32} {g : Nat → Bool} {n m m' : Nat} {l : List tp_S} {P : Nat → List Nat} (hI : tp_Inv Q g n m l P) (hm : m ≤ m')
    (hc : ∀ p c s, l[p]? = some s → c < n → m ≤ p * n + c → p * n + c < m' → tp_ok Q g c s = true → ∃ s', s' ∈ l ∧ tp_bt (tp_nx Q c p s) s' = true) : tp_Inv Q g n m' l P := by
  refine ⟨hI.1, hI.2.1, hI.2.2.1, fun j s hs h0 => ?_, fun p c s hs hcn hlt hok => ?_, hI.2.2.2.2.2.1, hI.2.2.2.2.2.2⟩
  · obtain ⟨p, c, s', h1, h2, h3, h4⟩ := hI.2.2.2.1 j s hs h0
    exact ⟨p, c, s', h1, h2, by omega, h4⟩
  · by_cases h : p * n + c < m
    · exact hI.2.2.2.2.1 p c s hs hcn h hok
    · exact hc p c s hs hcn (by omega) hlt hok
/-- one step -/
theorem tp_step {Q : Nat → Nat → Int32} {g : Nat → Bool} {n m : Nat} {l : List tp_S} {P : Nat → List Nat} (hn : n ≤ 10) (hI : tp_Inv Q g n m l P) {p c : Nat} (hm : m = p * n + c) (hc : c < n) (hp : p < l.length) (hd : (P p).length < 5) :
    ∃ P', tp_Inv Q g n (m + 1) (tp_ex Q g c p l) P' ∧ (∀ j, j < l.length → P' j = P j) ∧ (∀ j, l.length ≤ j → j < (tp_ex Q g c p l).length → P' j = P p ++ [c]) ∧ ∃ r, tp_ex Q g c p l = l ++ r := by
  have hlen := tp_bound hn hI
  obtain ⟨s, hs⟩ := tp_at hp
  have same : ∀ {p' c' s'}, l[p']? = some s' → c' < n → m ≤ p' * n + c' → p' * n + c' < m + 1 → p' = p ∧ c' = c ∧ s' = s := by
    intro p' c' s' h1 h2 h3 h4
    obtain ⟨e1, e2⟩ := tp_pair (n := n) (p := p) (p' := p') hc h2 (by omega)
    subst e1
    rw [hs] at h1
    exact ⟨rfl, e2, (Option.some.inj h1).symm⟩
  unfold tp_ex
  rw [hs]
  dsimp only
  by_cases hcond : tp_ok Q g c s = true ∧ l.length < 1025 ∧ l.any (tp_bt (tp_nx Q c p s)) = false
  · rw [if_pos hcond]
    obtain ⟨hok, _, hany⟩ := hcond
    have hnb : ∀ s', s' ∈ l → tp_bt (tp_nx Q c p s) s' = true → False := by
      intro s' h1 h2
      have := List.any_eq_true.mpr ⟨s', h1, h2⟩
      rw [hany] at this
      exact absurd this (by decide)
    have hl0 : 0 < l.length := by omega
    have hsrc : ∀ e, e ∈ P p → wk_src Q e c = false := by
      intro e he
      cases hb : wk_src Q e c with
      | false => rfl
      | true =>
        exfalso
        rw [wk_src_iff] at hb
        obtain ⟨b, sb, h1, h2, h3, h4⟩ := tp_anc hI p s hs e he
        have hsg : tp_sg Q c sb = true := by
          rw [tp_sg_src hb.1.symm hb.2.symm]
          exact h3
        have hok' := tp_ok_mono (g' := g) (fun _ z => z) h4 hsg hok
        have := tp_pairlt hc h1
        obtain ⟨s', h5, h6⟩ := hI.2.2.2.2.1 b c sb h2 hc (by omega) hok'
        refine hnb s' h5 ?_
        rw [tp_bt_iff] at h6 ⊢
        exact ⟨h6.1, tp_le_trans (tp_nx_mono Q c p b h4 (hI.2.2.1 b sb h2)) h6.2⟩
    have hby : ∀ d, (P p).getLast? = some d → wk_by Q d c = true := by
      intro d hd'
      have h1 := tp_lastk hI hs hd'
      have h2 := (tp_ok_iff.mp hok).2.2.1
      unfold tp_sg at h2
      rw [if_neg (by omega), Bool.and_eq_true, decide_eq_true_iff, decide_eq_true_iff, h1] at h2
      exact wk_by_iff.mpr h2
    have hP' : ∀ j, j < l.length → (fun j => if j = l.length then P p ++ [c] else P j) j = P j := by
      intro j hj
      show (if j = l.length then P p ++ [c] else P j) = P j
      rw [if_neg (by omega)]
    have hPn : (fun j => if j = l.length then P p ++ [c] else P j) l.length = P p ++ [c] := by
      show (if l.length = l.length then P p ++ [c] else P l.length) = P p ++ [c]
      rw [if_pos rfl]
    have hnew : (l ++ [tp_nx Q c p s])[l.length]? = some (tp_nx Q c p s) := List.getElem?_concat_length
    have hlen' : (l ++ [tp_nx Q c p s]).length = l.length + 1 := by rw [List.length_append]; rfl
    refine ⟨fun j => if j = l.length then P p ++ [c] else P j, ⟨tp_app hI.1, ?_, ?_, ?_, ?_, ?_, ?_⟩, hP', ?_, ⟨_, rfl⟩⟩
    · rw [hP' 0 hl0]
      exact hI.2.1
    · intro j s' h
      by_cases hj : j < l.length
      · exact hI.2.2.1 j s' (tp_app' hj h)
      · have := tp_lt h
        have e : j = l.length := by omega
        subst e
        rw [hnew] at h
        rw [← Option.some.inj h]
        exact tp_nx_4 Q c p (hI.2.2.1 p s hs)
    · intro j s' h h0
      by_cases hj : j < l.length
      · obtain ⟨p', c', s'', h1, h2, h3, h4, h5, h6, h7⟩ := hI.2.2.2.1 j s' (tp_app' hj h) h0
        refine ⟨p', c', s'', h1, h2, by omega, tp_app h4, h5, h6, ?_⟩
        rw [hP' j hj, hP' p' (by omega)]
        exact h7
      · have := tp_lt h
        have e : j = l.length := by omega
        subst e
        rw [hnew] at h
        refine ⟨p, c, s, hc, hp, by omega, tp_app hs, hok, (Option.some.inj h).symm, ?_⟩
        rw [hPn, hP' p hp]
    · intro p' c' s' h h1 h2 h3
      by_cases hj : p' < l.length
      · have h := tp_app' hj h
        by_cases hlt : p' * n + c' < m
        · obtain ⟨s'', h4, h5⟩ := hI.2.2.2.2.1 p' c' s' h h1 hlt h3
          exact ⟨s'', List.mem_append_left _ h4, h5⟩
        · obtain ⟨e1, e2, e3⟩ := same h h1 (by omega) h2
          subst e1 e2 e3
          exact ⟨_, List.mem_append_right _ (List.mem_singleton.mpr rfl), tp_bt_iff.mpr ⟨rfl, tp_le_refl _⟩⟩
      · have : p * n + c < p' * n := tp_pairlt hc (by omega)
        omega
    · have key : ∀ j, j < l.length → P p ++ [c] = P j → False := by
        intro j hj e
        by_cases h0 : j = 0
        · rw [h0, hI.2.1] at e
          exact absurd e (by simp)
        · obtain ⟨sj, hsj⟩ := tp_at hj
          obtain ⟨p', c', s'', h1, h2, h3, h4, h5, h6, h7⟩ := hI.2.2.2.1 j sj hsj (by omega)
          rw [h7] at e
          obtain ⟨e1, e2⟩ := List.append_inj' e rfl
          have e3 : c = c' := by simpa using e2
          have e4 := hI.2.2.2.2.2.1 p p' hp (by omega) e1
          subst e3 e4
          omega
      intro i j hi hj e
      rw [hlen'] at hi hj
      by_cases hi' : i < l.length
      · by_cases hj' : j < l.length
        · rw [hP' i hi', hP' j hj'] at e
          exact hI.2.2.2.2.2.1 i j hi' hj' e
        · have ej : j = l.length := by omega
          subst ej
          rw [hP' i hi', hPn] at e
          exact (key i hi' e.symm).elim
      · have ei : i = l.length := by omega
        subst ei
        by_cases hj' : j < l.length
        · rw [hPn, hP' j hj'] at e
          exact (key j hj' e).elim
        · omega
    · intro j hj
      rw [hlen'] at hj
      by_cases hj' : j < l.length
      · rw [hP' j hj']
        exact hI.2.2.2.2.2.2 j hj'
      · have e : j = l.length := by omega
        subst e
        rw [hPn]
        exact wk_all_snoc Q hc (hI.2.2.2.2.2.2 p hp) hd hsrc hby
    · intro j h1 h2
      rw [hlen'] at h2
      have e : j = l.length := by omega
      subst e
      exact hPn
  · rw [if_neg hcond]
    refine ⟨P, tp_weak hI (by omega) (fun p' c' s' h1 h2 h3 h4 h5 => ?_), fun _ _ => rfl, fun j h1 h2 => absurd h2 (by omega), ⟨[], (List.append_nil l).symm⟩⟩
    obtain ⟨e1, e2, e3⟩ := same h1 h2 h3 h4
    subst e1 e2 e3
    cases hany : l.any (tp_bt (tp_nx Q c' p' s')) with
    | false => exact absurd ⟨h5, by omega, hany⟩ hcond
    | true => exact List.any_eq_true.mp hany
theorem tp_ex_ext (Q : Nat → Nat → Int32) (g : Nat → Bool) (c p : Nat) (l : List tp_S) : ∃ r, tp_ex Q g c p l = l ++ r := by
  unfold tp_ex
  split
  · exact ⟨[], (List.append_nil l).symm⟩
  · split
    · exact ⟨_, rfl⟩
    · exact ⟨[], (List.append_nil l).symm⟩
theorem tp_rd_ext (Q : Nat → Nat → Int32) (g : Nat → Bool) (n b : Nat) : ∀ (k : Nat) (l : List tp_S), ∃ r, tp_rd Q g n b k l = l ++ r
  | 0, l => ⟨[], (List.append_nil l).symm⟩
  | k + 1, l => by
    obtain ⟨r, hr⟩ := tp_rd_ext Q g n b k l
    obtain ⟨r', hr'⟩ := tp_ex_ext Q g (k % n) (b + k / n) (tp_rd Q g n b k l)
    refine ⟨r ++ r', ?_⟩
    show tp_ex Q g (k % n) (b + k / n) (tp_rd Q g n b k l) = l ++ (r ++ r')
    rw [hr', hr, List.append_assoc]
theorem tp_fs_ext (Q : Nat → Nat → Int32) (g : Nat → Bool) (n i : Nat) : ∃ r, (tp_fs Q g n (i + 1)).1 = (tp_fs Q g n i).1 ++ r := tp_rd_ext Q g n _ _ _
/-- a round's first k steps -/
theorem tp_round {Q : Nat → Nat → Int32} {g : Nat → Bool} {n b d : Nat} {l : List tp_S} {P : Nat → List Nat} (hn : n ≤ 10) (h0 : 0 < n) (hI : tp_Inv Q g n (b * n) l P) (hb : b ≤ l.length) (hdep : ∀ j, j < l.length → (P j).length ≤ d) (hd : d < 5) :
    ∀ k, k ≤ (l.length - b) * n → ∃ P', tp_Inv Q g n (b * n + k) (tp_rd Q g n b k l) P' ∧ (∀ j, j < l.length → P' j = P j) ∧ (∀ j, j < (tp_rd Q g n b k l).length → (P' j).length ≤ d + 1) := by
  intro k
  induction k with
  | zero => exact fun _ => ⟨P, hI, fun _ _ => rfl, fun j hj => Nat.le_succ_of_le (hdep j hj)⟩
  | succ k ih =>
    intro hk
    obtain ⟨P', hI', hP', hD'⟩ := ih (by omega)
    obtain ⟨r, hr⟩ := tp_rd_ext Q g n b k l
    have hmod : k % n < n := Nat.mod_lt k h0
    have hdiv : k / n < l.length - b := (Nat.div_lt_iff_lt_mul h0).mpr (by omega)
    have hkk : n * (k / n) + k % n = k := Nat.div_add_mod k n
    have hlen : l.length ≤ (tp_rd Q g n b k l).length := by rw [hr, List.length_append]; omega
    have hm : b * n + k = (b + k / n) * n + k % n := by
      rw [Nat.add_mul, Nat.mul_comm (k / n) n]
      omega
    obtain ⟨P'', hI'', h1, h2, _⟩ := tp_step hn hI' hm hmod (by omega) (by rw [hP' _ (by omega)]; exact Nat.lt_of_le_of_lt (hdep _ (by omega)) hd)
    refine ⟨P'', hI'', fun j hj => ?_, fun j hj => ?_⟩
    · rw [h1 j (by omega)]
      exact hP' j hj
    · by_cases hj' : j < (tp_rd Q g n b k l).length
      · rw [h1 j hj']
        exact hD' j hj'
      · rw [h2 j (by omega) hj, List.length_append, hP' _ (by omega)]
        have := hdep (b + k / n) (by omega)
        show _ + 1 ≤ _
        omega
theorem tp_wk0 (Q : Nat → Nat → Int32) (n : Nat) : ([] : List Nat) ∈ wk_all Q n := List.mem_cons_self
theorem tp_fs_inv (Q : Nat → Nat → Int32) (g : Nat → Bool) {n : Nat} (hn : n ≤ 10) (h0 : 0 < n) : ∀ i, i ≤ 5 → ∃ P, tp_Inv Q g n ((tp_fs Q g n i).2 * n) (tp_fs Q g n i).1 P ∧ (∀ j, j < (tp_fs Q g n i).1.length → (P j).length ≤ i) ∧ (tp_fs Q g n i).2 ≤ (tp_fs Q g n i).1.length := by
  intro i
  induction i with
  | zero =>
    intro _
    refine ⟨fun _ => [], ⟨rfl, rfl, ?_, ?_, ?_, ?_, ?_⟩, fun _ _ => Nat.zero_le _, Nat.zero_le _⟩
    · intro j s h
      have hj : j < 1 := tp_lt h
      have e : j = 0 := by omega
      subst e
      have : tp_root = s := Option.some.inj h
      rw [← this]
      decide
    · intro j s h hj0
      have hj : j < 1 := tp_lt h
      omega
    · intro p c s h hc hlt
      have e : (tp_fs Q g n 0).2 * n = 0 := Nat.zero_mul n
      omega
    · intro a b ha hb _
      have ha : a < 1 := ha
      have hb : b < 1 := hb
      omega
    · intro j _
      exact tp_wk0 Q n
  | succ i ih =>
    intro hi
    obtain ⟨P, hI, hD, hb⟩ := ih (by omega)
    obtain ⟨P', h1, h2, h3⟩ := tp_round hn h0 hI hb hD (by omega) _ (Nat.le_refl _)
    obtain ⟨r, hr⟩ := tp_fs_ext Q g n i
    refine ⟨P', ?_, h3, ?_⟩
    · have e : (tp_fs Q g n i).2 * n + ((tp_fs Q g n i).1.length - (tp_fs Q g n i).2) * n = (tp_fs Q g n (i + 1)).2 * n := by
        show _ = (tp_fs Q g n i).1.length * n
        rw [← Nat.add_mul]
        congr 1
        omega
      rw [e] at h1
      exact h1
    · show (tp_fs Q g n i).1.length ≤ _
      rw [hr, List.length_append]
      omega
/-- what fewer certificates reach, more certificates reach -/
theorem tp_mono (Q : Nat → Nat → Int32) {g g' : Nat → Bool} {n : Nat} (hn : n ≤ 10) (h0 : 0 < n) (hg : ∀ c, g' c = true → g c = true) : ∀ i, i ≤ 5 → ∀ (j : Nat) (s' : tp_S), (tp_fs Q g' n i).1[j]? = some s' → ∃ s, s ∈ (tp_fs Q g n i).1 ∧ s.1 = s'.1 ∧ tp_le s' s = true := by
  intro i
  induction i with
  | zero =>
    intro _ j s' h
    have hj : j < 1 := tp_lt h
    have e : j = 0 := by omega
    subst e
    have : tp_root = s' := Option.some.inj h
    rw [← this]
    exact ⟨tp_root, List.mem_cons_self, rfl, tp_le_refl _⟩
  | succ i ih =>
    intro hi j s' h
    obtain ⟨P', hI', _, _⟩ := tp_fs_inv Q g' hn h0 (i + 1) hi
    obtain ⟨P, hI, _, _⟩ := tp_fs_inv Q g hn h0 (i + 1) hi
    obtain ⟨r', hr'⟩ := tp_fs_ext Q g' n i
    obtain ⟨r, hr⟩ := tp_fs_ext Q g n i
    by_cases hj : j = 0
    · subst hj
      rw [hI'.1] at h
      rw [← Option.some.inj h]
      exact ⟨tp_root, List.mem_of_getElem? hI.1, rfl, tp_le_refl _⟩
    · obtain ⟨p, c, sp, hc, _, hm, hsp, hok, hsn, _⟩ := hI'.2.2.2.1 j s' h (by omega)
      have hpl : p < (tp_fs Q g' n i).1.length := by
        have hm' : p * n + c < (tp_fs Q g' n i).1.length * n := hm
        rcases Nat.lt_or_ge p (tp_fs Q g' n i).1.length with z | z
        · exact z
        · have := Nat.mul_le_mul_right n z
          omega
      rw [hr'] at hsp
      obtain ⟨sk, hk, hk1, hk2⟩ := ih (by omega) p sp (tp_app' hpl hsp)
      obtain ⟨k, hkl, hke⟩ := List.getElem_of_mem hk
      have hkk : (tp_fs Q g n i).1[k]? = some sk := by rw [List.getElem?_eq_getElem hkl, hke]
      have hsg : tp_sg Q c sk = true := by
        rw [tp_sg_k hk1]
        exact (tp_ok_iff.mp hok).2.2.1
      have hok' := tp_ok_mono hg hk2 hsg hok
      have hkk' : (tp_fs Q g n (i + 1)).1[k]? = some sk := by
        rw [hr]
        exact tp_app hkk
      have hlt : k * n + c < (tp_fs Q g n (i + 1)).2 * n := tp_pairlt hc hkl
      obtain ⟨s, hs1, hs2⟩ := hI.2.2.2.2.1 k c sk hkk' hc hlt hok'
      rw [tp_bt_iff] at hs2
      refine ⟨s, hs1, ?_, ?_⟩
      · rw [hs2.1, hsn]
        rfl
      · rw [hsn]
        exact tp_le_trans (tp_nx_mono Q c p k hk2 (hI.2.2.1 k sk hkk')) hs2.2
/-- trusted: some state lets c end a path -/
def tp_tr (Q : Nat → Nat → Int32) (g : Nat → Bool) (n c : Nat) : Bool := (tp_all Q g n).any (tp_ew Q g c)
theorem tp_tr_mono (Q : Nat → Nat → Int32) {g g' : Nat → Bool} {n : Nat} (hn : n ≤ 10) (h0 : 0 < n) (hg : ∀ c, g' c = true → g c = true) {c : Nat} (h : tp_tr Q g' n c = true) : tp_tr Q g n c = true := by
  obtain ⟨s', h1, h2⟩ := List.any_eq_true.mp h
  obtain ⟨j, hj, he⟩ := List.getElem_of_mem h1
  have hjj : (tp_fs Q g' n 5).1[j]? = some s' := by
    rw [← he]
    exact List.getElem?_eq_getElem hj
  obtain ⟨s, hs1, hs2, hs3⟩ := tp_mono Q hn h0 hg 5 (Nat.le_refl 5) j s' hjj
  refine List.any_eq_true.mpr ⟨s, hs1, tp_ew_mono hg hs3 ?_ h2⟩
  rw [tp_sg_k hs2]
  exact (tp_ew_iff.mp h2).2.1
end
section
/-! ===== the paths of the states, as a function of the list ===== -/
def tp_pt (l : List tp_S) : Nat → Nat → List Nat
  | 0 => fun _ => []
  | f + 1 => fun j => if j = 0 then [] else match l[j]? with
    | none => []
    | some s => tp_pt l f s.2.2.2.2 ++ [s.1 - 1]
theorem tp_pt_eq {Q : Nat → Nat → Int32} {g : Nat → Bool} {n m : Nat} {l : List tp_S} {P : Nat → List Nat} (hI : tp_Inv Q g n m l P) : ∀ f j, j < l.length → (P j).length ≤ f → tp_pt l f j = P j := by
  intro f
  induction f with
  | zero =>
    intro j _ h
    have : P j = [] := List.eq_nil_of_length_eq_zero (by omega)
    rw [this]
    rfl
  | succ f ih =>
    intro j hj h
    show (if j = 0 then [] else match l[j]? with
      | none => []
      | some s => tp_pt l f s.2.2.2.2 ++ [s.1 - 1]) = P j
    by_cases h0 : j = 0
    · rw [if_pos h0, h0, hI.2.1]
    · rw [if_neg h0]
      obtain ⟨s, hs⟩ := tp_at hj
      obtain ⟨p, c, s', hc, hp, hm, hl, hok, hsn, hP⟩ := hI.2.2.2.1 j s hs (by omega)
      rw [hs, hP]
      dsimp only
      rw [hsn]
      show tp_pt l f p ++ [c + 1 - 1] = P p ++ [c]
      rw [hP, List.length_append] at h
      have h : (P p).length + 1 ≤ f + 1 := h
      rw [ih p (by omega) (by omega), Nat.add_sub_cancel]
theorem tp_Inv_congr {Q : Nat → Nat → Int32} {g : Nat → Bool} {n m : Nat} {l : List tp_S} {P P' : Nat → List Nat} (hI : tp_Inv Q g n m l P) (h : ∀ j, j < l.length → P' j = P j) : tp_Inv Q g n m l P' := by
  have h0 : 0 < l.length := tp_lt hI.1
  refine ⟨hI.1, by rw [h 0 h0]; exact hI.2.1, hI.2.2.1, fun j s hs hj => ?_, hI.2.2.2.2.1, fun i j hi hj e => ?_, fun j hj => by rw [h j hj]; exact hI.2.2.2.2.2.2 j hj⟩
  · obtain ⟨p, c, s', h1, h2, h3, h4, h5, h6, h7⟩ := hI.2.2.2.1 j s hs hj
    have hjl := tp_lt hs
    refine ⟨p, c, s', h1, h2, h3, h4, h5, h6, ?_⟩
    rw [h j hjl, h p (by omega)]
    exact h7
  · rw [h i hi, h j hj] at e
    exact hI.2.2.2.2.2.1 i j hi hj e
/-- the path of a place of the whole search -/
def tp_P (Q : Nat → Nat → Int32) (g : Nat → Bool) (n : Nat) (j : Nat) : List Nat := tp_pt (tp_all Q g n) 5 j
theorem tp_fin (Q : Nat → Nat → Int32) (g : Nat → Bool) {n : Nat} (hn : n ≤ 10) (h0 : 0 < n) : ∃ m, tp_Inv Q g n m (tp_all Q g n) (tp_P Q g n) ∧ (∀ j, j < (tp_all Q g n).length → (tp_P Q g n j).length ≤ 5) := by
  obtain ⟨P, hI, hD, _⟩ := tp_fs_inv Q g hn h0 5 (Nat.le_refl 5)
  have e : ∀ j, j < (tp_all Q g n).length → tp_P Q g n j = P j := fun j hj => tp_pt_eq hI 5 j hj (hD j hj)
  exact ⟨_, tp_Inv_congr hI e, fun j hj => by rw [e j hj]; exact hD j hj⟩
/-- along a path: each certificate of it may come behind the state of those ahead of it -/
theorem tp_chain {Q : Nat → Nat → Int32} {g : Nat → Bool} {n m : Nat} {l : List tp_S} {P : Nat → List Nat} (hI : tp_Inv Q g n m l P) : ∀ j s, l[j]? = some s → ∀ i, i ≤ (P j).length → ∃ a sa, l[a]? = some sa ∧ P a = (P j).take i ∧ (∀ e, (P j)[i]? = some e → tp_ok Q g e sa = true) ∧ ((P j)[i]? = none → a = j) := by
  intro j
  induction j using Nat.strongRecOn with
  | _ j ih =>
    intro s hs i hi
    by_cases h0 : j = 0
    · subst h0
      rw [hI.2.1] at hi ⊢
      have e : i = 0 := Nat.le_zero.mp hi
      subst e
      exact ⟨0, s, hs, hI.2.1, fun e he => absurd he (by simp), fun _ => rfl⟩
    · obtain ⟨p, c, s', hc, hp, hm, hl, hok, hsn, hP⟩ := hI.2.2.2.1 j s hs (by omega)
      have hlen : (P j).length = (P p).length + 1 := by rw [hP, List.length_append]; rfl
      by_cases h1 : i < (P p).length
      · obtain ⟨a, sa, h2, h3, h4, h5⟩ := ih p hp s' hl i (by omega)
        refine ⟨a, sa, h2, ?_, fun e he => h4 e ?_, fun he => ?_⟩
        · rw [h3, hP, List.take_append_of_le_length (by omega)]
        · rw [hP, List.getElem?_append_left h1] at he
          exact he
        · rw [List.getElem?_eq_none_iff] at he
          omega
      · by_cases h2 : i = (P p).length
        · refine ⟨p, s', hl, ?_, fun e he => ?_, fun he => ?_⟩
          · rw [hP, h2, List.take_left']
            rfl
          · rw [hP, h2, List.getElem?_append_right (Nat.le_refl _), Nat.sub_self] at he
            have : c = e := by simpa using he
            rw [← this]
            exact hok
          · rw [List.getElem?_eq_none_iff] at he
            omega
        · refine ⟨j, s, hs, ?_, fun e he => ?_, fun _ => rfl⟩
          · rw [List.take_of_length_le (by omega)]
          · have := (List.getElem?_eq_some_iff.mp he).1
            omega
/-- names: what all allow, what one bars -/
def tp_al (Q : Nat → Nat → Int32) (w : List Nat) : Int32 := w.foldl (fun a e => a &&& Q 7 (5 * e + 2)) 255
def tp_ba (Q : Nat → Nat → Int32) (w : List Nat) : Int32 := w.foldl (fun a e => a ||| Q 7 (5 * e + 3)) 0
theorem tp_al_snoc (Q : Nat → Nat → Int32) (w : List Nat) (e : Nat) : tp_al Q (w ++ [e]) = tp_al Q w &&& Q 7 (5 * e + 2) := by
  unfold tp_al
  rw [List.foldl_append]
  rfl
theorem tp_ba_snoc (Q : Nat → Nat → Int32) (w : List Nat) (e : Nat) : tp_ba Q (w ++ [e]) = tp_ba Q w ||| Q 7 (5 * e + 3) := by
  unfold tp_ba
  rw [List.foldl_append]
  rfl
theorem tp_free {Q : Nat → Nat → Int32} {g : Nat → Bool} {n m : Nat} {l : List tp_S} {P : Nat → List Nat} (hI : tp_Inv Q g n m l P) : ∀ j s, l[j]? = some s → s.2.1 = tp_al Q (P j) &&& (tp_ba Q (P j) ^^^ (-1)) := by
  intro j
  induction j using Nat.strongRecOn with
  | _ j ih =>
    intro s hs
    by_cases h0 : j = 0
    · subst h0
      rw [hI.1] at hs
      rw [hI.2.1, ← Option.some.inj hs]
      show (255 : Int32) = 255 &&& (0 ^^^ (-1))
      decide
    · obtain ⟨p, c, s', hc, hp, hm, hl, hok, hsn, hP⟩ := hI.2.2.2.1 j s hs (by omega)
      have hi := ih p hp s' hl
      rw [hP, tp_al_snoc, tp_ba_snoc, hsn]
      show (s'.2.1 &&& Q 7 (5 * c + 2)) &&& (Q 7 (5 * c + 3) ^^^ (-1)) = _
      rw [hi]
      apply tb_ext
      intro i hi
      rw [tb_and, tb_and, tb_and, tb_not _ hi, tb_not _ hi, tb_and, tb_and, tb_not _ hi, tb_or]
      cases tb_b (tp_al Q (P p)) i <;> cases tb_b (tp_ba Q (P p)) i <;> cases tb_b (Q 7 (5 * c + 2)) i <;> cases tb_b (Q 7 (5 * c + 3)) i <;> rfl
theorem tp_mem {Q : Nat → Nat → Int32} {g : Nat → Bool} {n m : Nat} {l : List tp_S} {P : Nat → List Nat} (hI : tp_Inv Q g n m l P) : ∀ j, j < l.length → ∀ e, e ∈ P j → e < n := by
  intro j
  induction j using Nat.strongRecOn with
  | _ j ih =>
    intro hj e he
    by_cases h0 : j = 0
    · subst h0
      rw [hI.2.1] at he
      exact absurd he (by simp)
    · obtain ⟨s, hs⟩ := tp_at hj
      obtain ⟨p, c, s', hc, hp, hm, hl, hok, hsn, hP⟩ := hI.2.2.2.1 j s hs (by omega)
      rw [hP] at he
      rcases List.mem_append.mp he with he | he
      · exact ih p hp (by omega) e he
      · have : e = c := by simpa using he
        omega
/-- the root alone has no path -/
theorem tp_nil {Q : Nat → Nat → Int32} {g : Nat → Bool} {n m : Nat} {l : List tp_S} {P : Nat → List Nat} (hI : tp_Inv Q g n m l P) {j : Nat} {s : tp_S} (hs : l[j]? = some s) (h : P j = []) : s = tp_root := by
  by_cases h0 : j = 0
  · subst h0
    rw [hI.1] at hs
    exact (Option.some.inj hs).symm
  · obtain ⟨p, c, s', hc, hp, hm, hl, hok, hsn, hP⟩ := hI.2.2.2.1 j s hs (by omega)
    rw [hP] at h
    exact absurd h (by simp)

/-! ===== how many ===== -/
def tp_ct (f : Nat → Bool) : Nat → Nat
  | 0 => 0
  | k + 1 => tp_ct f k + (if f k = true then 1 else 0)
theorem tp_ct_le (f : Nat → Bool) : ∀ k, tp_ct f k ≤ k
  | 0 => Nat.le_refl 0
  | k + 1 => by
    have := tp_ct_le f k
    show tp_ct f k + (if f k = true then 1 else 0) ≤ k + 1
    split <;> omega
theorem tp_ct_congr {f f' : Nat → Bool} : ∀ k, (∀ c, c < k → f c = f' c) → tp_ct f k = tp_ct f' k
  | 0, _ => rfl
  | k + 1, h => by
    show tp_ct f k + (if f k = true then 1 else 0) = tp_ct f' k + (if f' k = true then 1 else 0)
    rw [tp_ct_congr k (fun c hc => h c (by omega)), h k (by omega)]
theorem tp_ct_split (f f' : Nat → Bool) : ∀ k, (∀ c, c < k → f' c = true → f c = true) → tp_ct f' k + tp_ct (fun c => f c && !f' c) k = tp_ct f k
  | 0, _ => rfl
  | k + 1, h => by
    have ih := tp_ct_split f f' k (fun c hc => h c (by omega))
    show tp_ct f' k + (if f' k = true then 1 else 0) + (tp_ct (fun c => f c && !f' c) k + (if (f k && !f' k) = true then 1 else 0)) = tp_ct f k + (if f k = true then 1 else 0)
    have hk := h k (by omega)
    cases h1 : f k <;> cases h2 : f' k
    · simp; omega
    · rw [h1] at hk
      exact absurd (hk h2) (by decide)
    · simp; omega
    · simp; omega
theorem tp_ct_0 {f : Nat → Bool} : ∀ k, (∀ c, c < k → f c = false) → tp_ct f k = 0
  | 0, _ => rfl
  | k + 1, h => by
    show tp_ct f k + (if f k = true then 1 else 0) = 0
    rw [tp_ct_0 k (fun c hc => h c (by omega)), h k (by omega)]
    rfl
theorem tp_ct_up {f : Nat → Bool} {n : Nat} : ∀ k, (∀ c, n ≤ c → f c = false) → n ≤ k → tp_ct f k = tp_ct f n
  | 0, _, h => by rw [Nat.le_zero.mp h]
  | k + 1, h, hk => by
    by_cases e : n = k + 1
    · rw [e]
    · show tp_ct f k + (if f k = true then 1 else 0) = tp_ct f n
      rw [h k (by omega), tp_ct_up k h (by omega)]
      rfl
/-- without an anchor nothing is trusted -/
theorem tp_rd_root (Q : Nat → Nat → Int32) (g : Nat → Bool) (n b : Nat) (hQ : ∀ c, c < n → tp_an Q c = false) (h0 : 0 < n) : ∀ k, tp_rd Q g n b k [tp_root] = [tp_root]
  | 0 => rfl
  | k + 1 => by
    show tp_ex Q g (k % n) (b + k / n) (tp_rd Q g n b k [tp_root]) = [tp_root]
    rw [tp_rd_root Q g n b hQ h0 k]
    unfold tp_ex
    split
    · rfl
    · rename_i s hs
      have hlt := tp_lt hs
      have hlt : b + k / n < 1 := hlt
      have e : b + k / n = 0 := Nat.lt_one_iff.mp hlt
      rw [e] at hs
      have hs : tp_root = s := Option.some.inj hs
      rw [if_neg]
      intro z
      have z1 := (tp_ok_iff.mp z.1).2.2.1
      rw [← hs] at z1
      have z2 : tp_an Q (k % n) = true := z1
      rw [hQ _ (Nat.mod_lt k h0)] at z2
      exact absurd z2 (by decide)
theorem tp_fs_root (Q : Nat → Nat → Int32) (g : Nat → Bool) (n : Nat) (hQ : ∀ c, c < n → tp_an Q c = false) (h0 : 0 < n) : ∀ i, (tp_fs Q g n i).1 = [tp_root]
  | 0 => rfl
  | i + 1 => by
    show tp_rd Q g n (tp_fs Q g n i).2 (((tp_fs Q g n i).1.length - (tp_fs Q g n i).2) * n) (tp_fs Q g n i).1 = [tp_root]
    rw [tp_fs_root Q g n hQ h0 i]
    exact tp_rd_root Q g n _ hQ h0 _
theorem tp_tr_none (Q : Nat → Nat → Int32) (g : Nat → Bool) (n : Nat) (hQ : ∀ c, c < n → tp_an Q c = false) {c : Nat} (hc : c < n) : tp_tr Q g n c = false := by
  cases h : tp_tr Q g n c with
  | false => rfl
  | true =>
    obtain ⟨s, h1, h2⟩ := List.any_eq_true.mp h
    unfold tp_all at h1
    rw [tp_fs_root Q g n hQ (by omega) 5] at h1
    have e : s = tp_root := by simpa using h1
    have h3 := (tp_ew_iff.mp h2).2.1
    rw [e] at h3
    have h4 : tp_an Q c = true := h3
    rw [hQ c hc] at h4
    exact absurd h4 (by decide)
theorem tp_tr_bad (Q : Nat → Nat → Int32) (g : Nat → Bool) (n : Nat) {c : Nat} (hc : g c = false) : tp_tr Q g n c = false := by
  cases h : tp_tr Q g n c with
  | false => rfl
  | true =>
    obtain ⟨s, h1, h2⟩ := List.any_eq_true.mp h
    have h3 := (tp_ew_iff.mp h2).1
    rw [hc] at h3
    exact absurd h3 (by decide)
end
section
/-! ===== the small methods, each by what it answers ===== -/
def tp_i (b : Bool) : Int32 := if b = true then 1 else 0
def tp_pm (p : Nat) : Int32 := if p = 0 then -1 else nI (p - 1)
theorem tp_pm0 : tp_pm 0 = -1 := rfl
theorem tp_pmS (k : Nat) : tp_pm (k + 1) = nI k := rfl
theorem tp_i1 {b : Bool} (h : b = true) : tp_i b = 1 := by rw [h]; rfl
theorem tp_i0 {b : Bool} (h : b = false) : tp_i b = 0 := by rw [h]; rfl
theorem tp_ib {b : Bool} {A B : Prop} (f : b = false → A) (g : b = true → B) : (tp_i b = 0 → A) ∧ (¬ tp_i b = 0 → B) := by
  cases b
  · exact ⟨fun _ => f rfl, fun z => absurd rfl z⟩
  · exact ⟨fun z => absurd z (by decide), fun _ => g rfl⟩
theorem tp_ic {b : Bool} {A B : Prop} (f : b = true → A) (g : b = false → B) : (tp_i b = 1 → A) ∧ (¬ tp_i b = 1 → B) := by
  cases b
  · exact ⟨fun z => absurd z (by decide), fun _ => g rfl⟩
  · exact ⟨fun _ => f rfl, fun z => absurd rfl z⟩
theorem tp_idec {c : Prop} [Decidable c] {P : Int32 → Prop} (H : P (tp_i (decide c))) : (c → P 1) ∧ (¬ c → P 0) := by
  constructor
  · intro hc
    rw [decide_eq_true hc] at H
    exact H
  · intro hc
    rw [decide_eq_false hc] at H
    exact H
theorem tp_pmNeg {p : Nat} (hp : p < 2 ^ 31) : (0 ≤ tp_pm p) ↔ 0 < p := by
  cases p with
  | zero => exact ⟨fun z => absurd z (by decide), fun z => absurd z (by decide)⟩
  | succ k =>
    rw [tp_pmS]
    exact ⟨fun _ => Nat.succ_pos k, fun _ => nI_pos' (by omega)⟩
theorem tp_pmEq {c w : Nat} (hc : c < 2 ^ 31) (hw : w < 2 ^ 31) : nI c = tp_pm w ↔ c + 1 = w := by
  cases w with
  | zero =>
    rw [tp_pm0]
    refine ⟨fun z => ?_, fun z => absurd z (by omega)⟩
    have h1 : (0 : Int32) ≤ nI c := nI_pos' hc
    rw [z] at h1
    exact absurd h1 (by decide)
  | succ k =>
    rw [tp_pmS, nI_eq hc (by omega)]
    omega
theorem tp_dn {c : Prop} [Decidable (¬ c)] (h : c) : decide (¬ c) = false := decide_eq_false (fun z => z h)
theorem tp_dy {c : Prop} [Decidable (¬ c)] (h : ¬ c) : decide (¬ c) = true := decide_eq_true h
/-- the arrays hold the state s at the place p -/
def tp_hd (b11 b12 b13 b14 : Nat → Int32) (p : Nat) (s : tp_S) : Prop :=
  (p = 0 ∧ s = tp_root) ∨ ∃ k, p = k + 1 ∧ k < 1024 ∧ 0 < s.1 ∧ s.1 ≤ 12 ∧ b11 k = nI (s.1 - 1) ∧ b12 k = s.2.1 ∧ b13 k = nI s.2.2.1 ∧ b14 k = s.2.2.2.1
section
variable {Q : Nat → Nat → Int32} {h : Nat → Int32} {n S r t wo pl : Int32} {b11 b12 b13 b14 b15 b16 b17 : Nat → Int32} {post : Int32 → Prop}
theorem wq_good {c w : Nat} (hc : c < 12) (hw : w ≤ 12) (H : post (tp_i (tp_gd Q h t w c))) : wpX_isGood post (n, S, r, t, tp_pm w, pl, Q 1, Q 2, Q 3, Q 4, Q 5, Q 6, Q 7, Q 8, h, Q 10, b11, b12, b13, b14, b15, b16, b17) (nI c) := by
  have hcl := nI_clamp (n := c) (by omega)
  have hin : vp_in (nI c) 12 := vp_in_nI hc (by decide)
  have he := tp_pmEq (c := c) (w := w) (by omega) (by omega)
  unfold wpX_isGood
  dsimp only
  rw [hcl]
  unfold tp_gd at H
  refine ⟨fun e => ?_, fun e => ⟨hin, fun e1 => ⟨hin, fun e2 => ?_, fun e2 => ⟨hin, fun e3 => ?_, fun e3 => ⟨hin, fun e4 => ?_, fun e4 => ?_⟩⟩⟩, fun e1 => ?_⟩⟩
  · rw [tp_dn (he.mp e)] at H
    exact H
  · rw [tp_dy (fun z => e (he.mpr z)), decide_eq_true e1, tp_dn e2] at H
    exact H
  · rw [tp_dy (fun z => e (he.mpr z)), decide_eq_true e1, decide_eq_true e2, tp_dn e3] at H
    exact H
  · rw [tp_dy (fun z => e (he.mpr z)), decide_eq_true e1, decide_eq_true e2, decide_eq_true e3, tp_dn e4] at H
    exact H
  · rw [tp_dy (fun z => e (he.mpr z)), decide_eq_true e1, decide_eq_true e2, decide_eq_true e3, decide_eq_true e4] at H
    exact H
  · rw [tp_dy (fun z => e (he.mpr z)), decide_eq_false e1] at H
    exact H
theorem wq_own {c : Nat} (hc : c < 12) (H : post (tp_i (tp_own Q c))) : wpX_isSelfIssued post (n, S, r, t, wo, pl, Q 1, Q 2, Q 3, Q 4, Q 5, Q 6, Q 7, Q 8, h, Q 10, b11, b12, b13, b14, b15, b16, b17) (nI c) := by
  have hcl := nI_clamp (n := c) (by omega)
  have hin : vp_in (nI c) 12 := vp_in_nI hc (by decide)
  unfold wpX_isSelfIssued
  dsimp only
  rw [hcl]
  exact ⟨hin, hin, tp_idec H⟩
theorem wq_common {p : Nat} {s : tp_S} (hd : tp_hd b11 b12 b13 b14 p s) (H : post s.2.2.2.1) : wpX_commonOf post (n, S, r, t, wo, pl, Q 1, Q 2, Q 3, Q 4, Q 5, Q 6, Q 7, Q 8, h, Q 10, b11, b12, b13, b14, b15, b16, b17) (tp_pm p) := by
  unfold wpX_commonOf
  dsimp only
  rcases hd with ⟨rfl, rfl⟩ | ⟨k, rfl, hk, h1, h2, h3, h4, h5, h6⟩
  · exact br_f (by decide) H
  · rw [tp_pmS]
    refine br_t (nI_pos' (by omega)) ⟨vp_in_nI hk (by decide), ?_⟩
    rw [nI_clamp (by omega), h6]
    exact H
theorem wq_openOf {p : Nat} {s : tp_S} (hd : tp_hd b11 b12 b13 b14 p s) (H : post s.2.1) : wpX_openOf post (n, S, r, t, wo, pl, Q 1, Q 2, Q 3, Q 4, Q 5, Q 6, Q 7, Q 8, h, Q 10, b11, b12, b13, b14, b15, b16, b17) (tp_pm p) := by
  unfold wpX_openOf
  dsimp only
  rcases hd with ⟨rfl, rfl⟩ | ⟨k, rfl, hk, h1, h2, h3, h4, h5, h6⟩
  · exact br_f (by decide) H
  · rw [tp_pmS]
    refine br_t (nI_pos' (by omega)) ⟨vp_in_nI hk (by decide), ?_⟩
    rw [nI_clamp (by omega), h4]
    exact H
theorem wq_isOpen {c p : Nat} {s : tp_S} (hc : c < 12) (hd : tp_hd b11 b12 b13 b14 p s) (H : post (tp_i (tp_op Q c s))) : wpX_isOpen post (n, S, r, t, wo, pl, Q 1, Q 2, Q 3, Q 4, Q 5, Q 6, Q 7, Q 8, h, Q 10, b11, b12, b13, b14, b15, b16, b17) (nI c) (tp_pm p) := by
  unfold wpX_isOpen
  dsimp only
  refine wq_openOf hd ⟨vp_in_nI hc (by decide), ?_⟩
  rw [nI_clamp (by omega)]
  exact tp_idec H
theorem wq_anchored {c : Nat} (hc : c < 12) (H : post (tp_i (tp_an Q c))) : wpX_isAnchored post (n, S, r, t, wo, pl, Q 1, Q 2, Q 3, Q 4, Q 5, Q 6, Q 7, Q 8, h, Q 10, b11, b12, b13, b14, b15, b16, b17) (nI c) := by
  have hcl := nI_clamp (n := c) (by omega)
  have hin : vp_in (nI c) 12 := vp_in_nI hc (by decide)
  unfold wpX_isAnchored
  dsimp only
  rw [hcl]
  refine ⟨hin, hin, nm_e ?_⟩
  unfold tp_an at H
  refine ⟨fun e => ?_, fun e => ⟨fun e1 => ?_, fun e1 => ⟨fun e2 => ?_, fun e2 => ?_⟩⟩⟩
  · rw [decide_eq_true e] at H
    exact H
  · rw [decide_eq_false e, decide_eq_true e1] at H
    exact H
  · rw [decide_eq_false e, decide_eq_false e1, decide_eq_true e2] at H
    exact H
  · rw [decide_eq_false e, decide_eq_false e1, decide_eq_false e2] at H
    exact H
theorem tp_inar (b : Bool) : narrow .boolean (.int (tp_i b)) = .int (tp_i b) := by
  cases b <;> rfl
theorem wq_signed {c p : Nat} {s : tp_S} (hc : c < 12) (hd : tp_hd b11 b12 b13 b14 p s) (H : post (tp_i (tp_sg Q c s))) : wpX_isSigned post (n, S, r, t, wo, pl, Q 1, Q 2, Q 3, Q 4, Q 5, Q 6, Q 7, Q 8, h, Q 10, b11, b12, b13, b14, b15, b16, b17) (nI c) (tp_pm p) := by
  have hcl := nI_clamp (n := c) (by omega)
  have hin : vp_in (nI c) 12 := vp_in_nI hc (by decide)
  unfold wpX_isSigned
  dsimp only
  rcases hd with ⟨rfl, rfl⟩ | ⟨k, rfl, hk, h1, h2, h3, h4, h5, h6⟩
  · exact br_f (by decide) (wq_anchored hc ⟨tp_inar _, H⟩)
  · rw [tp_pmS]
    refine br_t (nI_pos' (by omega)) ⟨vp_in_nI hk (by decide), nm_r (by rw [nI_clamp (by omega), h3]) ?_⟩
    have hin' : vp_in (nI (s.1 - 1)) 12 := vp_in_nI (by omega) (by decide)
    rw [hcl, nI_clamp (by omega)]
    unfold tp_sg at H
    rw [if_neg (by omega)] at H
    refine ⟨hin, hin', fun e => ⟨hin, hin', ?_⟩, fun e => ?_⟩
    · rw [decide_eq_true e, Bool.true_and] at H
      exact tp_idec H
    · rw [decide_eq_false e] at H
      exact H
theorem wq_i5 {c : Nat} {x y : Int32} (j : Nat) (hc : c < 12) (hj : j < 5) (hx : x = nI c) (hy : y = nI j) : vp_in ((5 * x) + y) 60 ∧ ((5 * x) + y).toNatClampNeg = 5 * c + j := by
  have e : (5 * x) + y = nI (5 * c + j) := by
    rw [hx, hy, show (5 : Int32) = nI 5 from rfl, pk_mul, nI_add]
  rw [e]
  exact ⟨vp_in_nI (by omega) (by decide), nI_clamp (by omega)⟩
theorem wq_i50 {c : Nat} {x : Int32} (hc : c < 12) (hx : x = nI c) : vp_in (5 * x) 60 ∧ (5 * x).toNatClampNeg = 5 * c := by
  have e : 5 * x = nI (5 * c) := by
    rw [hx, show (5 : Int32) = nI 5 from rfl, pk_mul]
  rw [e]
  exact ⟨vp_in_nI (by omega) (by decide), nI_clamp (by omega)⟩
theorem wq_ends {c w p : Nat} {s : tp_S} (hc : c < 12) (hw : w ≤ 12) (hd : tp_hd b11 b12 b13 b14 p s) (H : post (tp_i (tp_ew Q (tp_gd Q h t w) c s))) : wpX_endsWell post (n, S, r, t, tp_pm w, pl, Q 1, Q 2, Q 3, Q 4, Q 5, Q 6, Q 7, Q 8, h, Q 10, b11, b12, b13, b14, b15, b16, b17) (nI c) (tp_pm p) := by
  obtain ⟨hin, hcl⟩ := wq_i5 (x := nI c) 4 hc (by decide) rfl (rfl : (4 : Int32) = nI 4)
  unfold wpX_endsWell
  dsimp only
  unfold tp_ew at H
  refine wq_good hc hw (tp_ib (fun e => ?_) (fun e => ?_))
  · rw [e] at H
    exact H
  · rw [e, Bool.true_and] at H
    refine wq_signed hc hd (tp_ib (fun e => ?_) (fun e => ?_))
    · rw [e] at H
      exact H
    · rw [e, Bool.true_and] at H
      refine wq_isOpen hc hd (tp_ib (fun e => ?_) (fun e => ?_))
      · rw [e] at H
        exact H
      · rw [e, Bool.true_and] at H
        refine wq_common hd ⟨hin, ?_⟩
        rw [hcl]
        unfold tp_cm at H
        refine ⟨fun e => ?_, fun e => ?_⟩
        · rw [tp_dn e] at H
          exact H
        · rw [decide_eq_true e] at H
          exact H
end
end
section
/-! ===== isBeaten, extend, findStates ===== -/
def tp_Rep (l : List tp_S) (b11 b12 b13 b14 b15 : Nat → Int32) : Prop :=
  l[0]? = some tp_root ∧ l.length ≤ 1025 ∧ ∀ k s, l[k + 1]? = some s → 0 < s.1 ∧ s.1 ≤ 12 ∧ s.2.2.1 ≤ 4 ∧ b11 k = nI (s.1 - 1) ∧ b12 k = s.2.1 ∧ b13 k = nI s.2.2.1 ∧ b14 k = s.2.2.2.1 ∧ b15 k = tp_pm s.2.2.2.2
theorem tp_Rep_hd {l : List tp_S} {b11 b12 b13 b14 b15 : Nat → Int32} (hR : tp_Rep l b11 b12 b13 b14 b15) {p : Nat} {s : tp_S} (hs : l[p]? = some s) : tp_hd b11 b12 b13 b14 p s := by
  cases p with
  | zero =>
    rw [hR.1] at hs
    exact Or.inl ⟨rfl, (Option.some.inj hs).symm⟩
  | succ k =>
    have hlt := tp_lt hs
    have hl := hR.2.1
    obtain ⟨h1, h2, h3, h4, h5, h6, h7, h8⟩ := hR.2.2 k s hs
    exact Or.inr ⟨k, rfl, by omega, h1, h2, h4, h5, h6, h7⟩
theorem tp_Rep_may {l : List tp_S} {b11 b12 b13 b14 b15 : Nat → Int32} (hR : tp_Rep l b11 b12 b13 b14 b15) {p : Nat} {s : tp_S} (hs : l[p]? = some s) : s.2.2.1 ≤ 4 := by
  cases p with
  | zero =>
    rw [hR.1] at hs
    rw [← Option.some.inj hs]
    decide
  | succ k => exact (hR.2.2 k s hs).2.2.1
theorem tp_Rep_keep {l : List tp_S} {b11 b12 b13 b14 b15 : Nat → Int32} (hR : tp_Rep l b11 b12 b13 b14 b15) {K : Nat} (hK : K = l.length - 1) (v1 v2 v3 v4 v5 : Int32) : tp_Rep l (upd b11 K v1) (upd b12 K v2) (upd b13 K v3) (upd b14 K v4) (upd b15 K v5) := by
  refine ⟨hR.1, hR.2.1, fun k s hs => ?_⟩
  have hlt := tp_lt hs
  have hne : k ≠ K := by omega
  rw [pk_un hne, pk_un hne, pk_un hne, pk_un hne, pk_un hne]
  exact hR.2.2 k s hs
theorem tp_Rep_add {l : List tp_S} {b11 b12 b13 b14 b15 : Nat → Int32} (hR : tp_Rep l b11 b12 b13 b14 b15) (hl : l.length < 1025) {x : tp_S} {K : Nat} (hK : K = l.length - 1)
    (hx : 0 < x.1 ∧ x.1 ≤ 12 ∧ x.2.2.1 ≤ 4 ∧ b11 K = nI (x.1 - 1) ∧ b12 K = x.2.1 ∧ b13 K = nI x.2.2.1 ∧ b14 K = x.2.2.2.1 ∧ b15 K = tp_pm x.2.2.2.2) : tp_Rep (l ++ [x]) b11 b12 b13 b14 b15 := by
  have h0 := tp_lt hR.1
  have hlen : (l ++ [x]).length = l.length + 1 := by rw [List.length_append]; rfl
  refine ⟨tp_app hR.1, by omega, fun k s hs => ?_⟩
  have hlt := tp_lt hs
  by_cases hk : k + 1 < l.length
  · exact hR.2.2 k s (tp_app' hk hs)
  · have e : k + 1 = l.length := by omega
    have e' : k = K := by omega
    rw [e, List.getElem?_concat_length] at hs
    rw [e', ← Option.some.inj hs]
    exact hx
section
variable {Q : Nat → Nat → Int32} {h : Nat → Int32} {n S r t wo pl : Int32} {b11 b12 b13 b14 b15 b16 b17 : Nat → Int32}
theorem wq_beaten {post : Int32 → Prop} {l : List tp_S} {x : tp_S} {K : Nat} (hR : tp_Rep l b11 b12 b13 b14 b15) (hl : l.length < 1025) (hK : K = l.length - 1)
    (hx : 0 < x.1 ∧ x.1 ≤ 12 ∧ x.2.2.1 ≤ 4 ∧ b11 K = nI (x.1 - 1) ∧ b12 K = x.2.1 ∧ b13 K = nI x.2.2.1 ∧ b14 K = x.2.2.2.1 ∧ b15 K = tp_pm x.2.2.2.2)
    (H : post (tp_i (l.any (tp_bt x)))) : wpX_isBeaten post (n, S, r, t, wo, pl, Q 1, Q 2, Q 3, Q 4, Q 5, Q 6, Q 7, Q 8, h, Q 10, b11, b12, b13, b14, b15, b16, b17) (nI K) := by
  have h0 := tp_lt hR.1
  obtain ⟨x1, x2, x3, x4, x5, x6, x7, x8⟩ := hx
  have hclK := nI_clamp (n := K) (by omega)
  have hinK : vp_in (nI K) 1024 := vp_in_nI (by omega) (by decide)
  unfold wpX_isBeaten
  dsimp only
  refine pk_loop (σ := Unit) (fun fu i _ => wX_isBeaten_2 post (nI K) n S r t wo pl (Q 1) (Q 2) (Q 3) (Q 4) (Q 5) (Q 6) (Q 7) (Q 8) h (Q 10) b11 b12 b13 b14 b15 b16 b17 fu (nI i)) (fun i _ => ∀ k, k < i + 1 → ∀ s, l[k]? = some s → tp_bt x s = false) K 0 () (by omega) ?_ ?_ ?_
  · intro k hk s hs
    have e : k = 0 := by omega
    subst e
    rw [hR.1] at hs
    rw [← Option.some.inj hs]
    unfold tp_bt
    rw [decide_eq_false (show ¬ tp_root.1 = x.1 from fun z => by have : 0 = x.1 := z; omega)]
    rfl
  · intro fu _ hI
    refine pk_le K K (fun _ => ?_) (fun z => absurd z (by omega))
    have ha : l.any (tp_bt x) = false := by
      rw [List.any_eq_false]
      intro s hs hb
      obtain ⟨k, hk, e⟩ := List.getElem_of_mem hs
      have := hI k (by omega) s (by rw [List.getElem?_eq_getElem hk, e])
      rw [this] at hb
      exact absurd hb (by decide)
    rw [ha] at H
    exact H
  · intro fu i _ hi hI hw
    obtain ⟨s, hs⟩ := tp_at (l := l) (j := i + 1) (by omega)
    obtain ⟨s1, s2, s3, s4, s5, s6, s7, s8⟩ := hR.2.2 i s hs
    have hcli := nI_clamp (n := i) (by omega)
    have hini : vp_in (nI i) 1024 := vp_in_nI (by omega) (by decide)
    have N : tp_bt x s = false → wX_isBeaten_2 post (nI K) n S r t wo pl (Q 1) (Q 2) (Q 3) (Q 4) (Q 5) (Q 6) (Q 7) (Q 8) h (Q 10) b11 b12 b13 b14 b15 b16 b17 fu (nI (i + 1)) := fun hb => hw () (fun k hk s' hs' => by
      by_cases e : k = i + 1
      · subst e
        rw [hs] at hs'
        rw [← Option.some.inj hs']
        exact hb
      · exact hI k (by omega) s' hs')
    have Y : tp_bt x s = true → post 1 := fun hb => by
      have ha : l.any (tp_bt x) = true := List.any_eq_true.mpr ⟨s, List.mem_of_getElem? hs, hb⟩
      rw [ha] at H
      exact H
    have h63 : ∀ b, tp_le x s = b → wX_isBeaten_63 post (wX_isBeaten_2 post (nI K) n S r t wo pl (Q 1) (Q 2) (Q 3) (Q 4) (Q 5) (Q 6) (Q 7) (Q 8) h (Q 10) b11 b12 b13 b14 b15 b16 b17 fu) (nI K) (nI i) (tp_i b) n S r t wo pl (Q 1) (Q 2) (Q 3) (Q 4) (Q 5) (Q 6) (Q 7) (Q 8) h (Q 10) b11 b12 b13 b14 b15 b16 b17 := by
      intro b hb
      unfold wX_isBeaten_63
      rw [hclK, hcli, x4, s4]
      refine ⟨hini, hinK, fun e => ?_, fun e => nm_r (nI_1 i) (N ?_)⟩
      · have e' : s.1 = x.1 := by
          have := (nI_eq (by omega) (by omega)).mp e
          omega
        refine tp_ib (fun hz => nm_r (nI_1 i) (N ?_)) (fun hz => Y ?_)
        · unfold tp_bt
          rw [hb, hz, Bool.and_false]
        · unfold tp_bt
          rw [hb, hz, decide_eq_true e']
          rfl
      · unfold tp_bt
        rw [decide_eq_false (fun z => e (by rw [z]))]
        rfl
    refine pk_le K i (fun z => absurd z (by omega)) (fun _ => ⟨hinK, hini, ?_⟩)
    rw [hclK, hcli, x5, s5, x6, s6, x7, s7]
    unfold tp_le at h63
    refine ⟨fun e => ⟨hinK, hini, fun e1 => ⟨hinK, hini, ?_⟩, fun e1 => ?_⟩, fun e => ?_⟩
    · have hsub1 : tb_sub x.2.1 s.2.1 = true := decide_eq_true e
      have hsub2 : tb_sub x.2.2.2.1 s.2.2.2.1 = true := decide_eq_true e1
      rw [hsub1, hsub2] at h63
      refine pk_lt s.2.2.1 x.2.2.1 (fun z => ?_) (fun z => ?_)
      · exact h63 false (by rw [decide_eq_false (by omega)]; rfl)
      · exact h63 true (by rw [decide_eq_true z]; rfl)
    · have hsub1 : tb_sub x.2.1 s.2.1 = true := decide_eq_true e
      have hsub2 : tb_sub x.2.2.2.1 s.2.2.2.1 = false := decide_eq_false e1
      rw [hsub1, hsub2] at h63
      exact h63 false rfl
    · have hsub1 : tb_sub x.2.1 s.2.1 = false := decide_eq_false e
      rw [hsub1] at h63
      exact h63 false rfl
end
def tp_set (Q : Nat → Nat → Int32) : Prop := ∀ i, i < 60 → ∃ v, v ≤ 255 ∧ Q 7 i = nI v
section
variable {Q : Nat → Nat → Int32} {h : Nat → Int32} {n r t pl : Int32} {b11 b12 b13 b14 b15 b16 b17 : Nat → Int32}
theorem wq_x110 {post : St1 → Prop} {l : List tp_S} {c p w : Nat} {s : tp_S} (hc : c < 12) (hset : tp_set Q) (hR : tp_Rep l b11 b12 b13 b14 b15) (hs : l[p]? = some s) (hok : tp_ok Q (tp_gd Q h t w) c s = true)
    (H : ∀ b11 b12 b13 b14 b15, tp_Rep (tp_ex Q (tp_gd Q h t w) c p l) b11 b12 b13 b14 b15 → post (n, nI ((tp_ex Q (tp_gd Q h t w) c p l).length - 1), r, t, tp_pm w, pl, Q 1, Q 2, Q 3, Q 4, Q 5, Q 6, Q 7, Q 8, h, Q 10, b11, b12, b13, b14, b15, b16, b17)) :
    wX_extend_110 post (nI c) (tp_pm p) (tp_cm Q c s) (nI (tp_lf Q c s.2.2.1)) n (nI (l.length - 1)) r t (tp_pm w) pl (Q 1) (Q 2) (Q 3) (Q 4) (Q 5) (Q 6) (Q 7) (Q 8) h (Q 10) b11 b12 b13 b14 b15 b16 b17 := by
  obtain ⟨hin1, hcl1⟩ := wq_i5 (x := nI c) 1 hc (by decide) rfl (rfl : (1 : Int32) = nI 1)
  obtain ⟨hin2, hcl2⟩ := wq_i5 (x := nI c) 2 hc (by decide) rfl (rfl : (2 : Int32) = nI 2)
  obtain ⟨hin3, hcl3⟩ := wq_i5 (x := nI c) 3 hc (by decide) rfl (rfl : (3 : Int32) = nI 3)
  have hd := tp_Rep_hd hR hs
  have h0 := tp_lt hR.1
  have h1 := hR.2.1
  have hm4 := tp_Rep_may hR hs
  have hlf := tp_lf_le Q c s.2.2.1
  obtain ⟨v, hv, ev⟩ := hset (5 * c + 1) (by omega)
  have hexF : ¬ (l.length < 1025 ∧ l.any (tp_bt (tp_nx Q c p s)) = false) → tp_ex Q (tp_gd Q h t w) c p l = l := by
    intro z
    unfold tp_ex
    rw [hs]
    dsimp only
    rw [if_neg (fun y => z y.2)]
  have hexT : (l.length < 1025 ∧ l.any (tp_bt (tp_nx Q c p s)) = false) → tp_ex Q (tp_gd Q h t w) c p l = l ++ [tp_nx Q c p s] := by
    intro z
    unfold tp_ex
    rw [hs]
    dsimp only
    rw [if_pos ⟨hok, z⟩]
  unfold wX_extend_110
  rw [hcl1, hcl2, hcl3]
  refine ⟨hin1, nm_r ev (wq_openOf hd ⟨hin2, hin3, nm_r (e' := tp_nm Q c s) rfl ?_⟩)⟩
  refine pk_lt (l.length - 1) 1024 (fun z => ?_) (fun z => ?_)
  · have hinS : vp_in (nI (l.length - 1)) 1024 := vp_in_nI z (by decide)
    have hclS := nI_clamp (n := l.length - 1) (by omega)
    rw [hclS]
    refine ⟨hinS, nm_e ⟨hinS, nm_e ?_⟩⟩
    have key : ∀ y : Int32, y = nI (tp_nx Q c p s).2.2.1 → wX_extend_207 post (tp_pm p) (tp_cm Q c s) (nI (l.length - 1)) y (nI (l.length - 1)) n (nI (l.length - 1)) r t (tp_pm w) pl (Q 1) (Q 2) (Q 3) (Q 4) (Q 5) (Q 6) (Q 7) (Q 8) h (Q 10) (upd b11 (l.length - 1) (nI c)) (upd b12 (l.length - 1) (tp_nm Q c s)) b13 b14 b15 b16 b17 := by
      intro y hy
      unfold wX_extend_207
      rw [hclS, hy]
      refine ⟨hinS, nm_e ⟨hinS, nm_e ⟨hinS, nm_e ?_⟩⟩⟩
      have hR' := tp_Rep_keep hR (K := l.length - 1) rfl (nI c) (tp_nm Q c s) (nI (tp_nx Q c p s).2.2.1) (tp_cm Q c s) (tp_pm p)
      have hx : 0 < (tp_nx Q c p s).1 ∧ (tp_nx Q c p s).1 ≤ 12 ∧ (tp_nx Q c p s).2.2.1 ≤ 4 ∧ (upd b11 (l.length - 1) (nI c)) (l.length - 1) = nI ((tp_nx Q c p s).1 - 1) ∧ (upd b12 (l.length - 1) (tp_nm Q c s)) (l.length - 1) = (tp_nx Q c p s).2.1 ∧ (upd b13 (l.length - 1) (nI (tp_nx Q c p s).2.2.1)) (l.length - 1) = nI (tp_nx Q c p s).2.2.1 ∧ (upd b14 (l.length - 1) (tp_cm Q c s)) (l.length - 1) = (tp_nx Q c p s).2.2.2.1 ∧ (upd b15 (l.length - 1) (tp_pm p)) (l.length - 1) = tp_pm (tp_nx Q c p s).2.2.2.2 :=
        ⟨Nat.succ_pos c, hc, tp_nx_4 Q c p hm4, pk_us, pk_us, pk_us, pk_us, pk_us⟩
      refine wq_beaten hR' (by omega) rfl hx (tp_ib (fun hb => ?_) (fun hb => ?_))
      · refine nm_r (nI_1 _) ?_
        have hex := hexT ⟨by omega, hb⟩
        rw [hex] at H
        have hlen : (l ++ [tp_nx Q c p s]).length - 1 = l.length - 1 + 1 := by
          rw [List.length_append]
          show l.length + 1 - 1 = _
          omega
        rw [hlen] at H
        exact H _ _ _ _ _ (tp_Rep_add hR' (by omega) rfl hx)
      · have hex := hexF (fun y => by rw [hb] at y; exact absurd y.2 (by decide))
        rw [hex] at H
        exact H _ _ _ _ _ hR'
    have hcl : (Q 7 (5 * c + 1)).toNatClampNeg = v := by
      rw [ev]
      exact nI_clamp (by omega)
    have hmin : (tp_nx Q c p s).2.2.1 = min v (tp_lf Q c s.2.2.1) := by
      show min (Q 7 (5 * c + 1)).toNatClampNeg (tp_lf Q c s.2.2.1) = _
      rw [hcl]
    refine pk_le (tp_lf Q c s.2.2.1) v (fun z => key _ ?_) (fun z => key _ ?_)
    · rw [hmin, Nat.min_eq_right z]
    · rw [hmin, Nat.min_eq_left (by omega)]
  · have hex := hexF (fun y => by omega)
    rw [hex] at H
    exact H _ _ _ _ _ hR
theorem wq_extend {post : St1 → Prop} {l : List tp_S} {c p w : Nat} {s : tp_S} (hc : c < 12) (hw : w ≤ 12) (hset : tp_set Q) (hR : tp_Rep l b11 b12 b13 b14 b15) (hs : l[p]? = some s)
    (H : ∀ b11 b12 b13 b14 b15, tp_Rep (tp_ex Q (tp_gd Q h t w) c p l) b11 b12 b13 b14 b15 → post (n, nI ((tp_ex Q (tp_gd Q h t w) c p l).length - 1), r, t, tp_pm w, pl, Q 1, Q 2, Q 3, Q 4, Q 5, Q 6, Q 7, Q 8, h, Q 10, b11, b12, b13, b14, b15, b16, b17)) :
    wpX_extend post (n, nI (l.length - 1), r, t, tp_pm w, pl, Q 1, Q 2, Q 3, Q 4, Q 5, Q 6, Q 7, Q 8, h, Q 10, b11, b12, b13, b14, b15, b16, b17) (nI c) (tp_pm p) := by
  have hd := tp_Rep_hd hR hs
  have hm4 := tp_Rep_may hR hs
  obtain ⟨hin4, hcl4⟩ := wq_i5 (x := nI c) 4 hc (by decide) rfl (rfl : (4 : Int32) = nI 4)
  obtain ⟨hin0, hcl0⟩ := wq_i50 (x := nI c) hc rfl
  have H0 : tp_ok Q (tp_gd Q h t w) c s = false → post (n, nI (l.length - 1), r, t, tp_pm w, pl, Q 1, Q 2, Q 3, Q 4, Q 5, Q 6, Q 7, Q 8, h, Q 10, b11, b12, b13, b14, b15, b16, b17) := by
    intro z
    have hex : tp_ex Q (tp_gd Q h t w) c p l = l := by
      unfold tp_ex
      rw [hs]
      dsimp only
      rw [if_neg (fun y => by rw [z] at y; exact absurd y.1 (by decide))]
    rw [hex] at H
    exact H _ _ _ _ _ hR
  have H1 : tp_ok Q (tp_gd Q h t w) c s = true → wX_extend_110 post (nI c) (tp_pm p) (tp_cm Q c s) (nI (tp_lf Q c s.2.2.1)) n (nI (l.length - 1)) r t (tp_pm w) pl (Q 1) (Q 2) (Q 3) (Q 4) (Q 5) (Q 6) (Q 7) (Q 8) h (Q 10) b11 b12 b13 b14 b15 b16 b17 := fun z => wq_x110 hc hset hR hs z H
  have main : wX_extend_14 post (nI c) (tp_pm p) (nI s.2.2.1) n (nI (l.length - 1)) r t (tp_pm w) pl (Q 1) (Q 2) (Q 3) (Q 4) (Q 5) (Q 6) (Q 7) (Q 8) h (Q 10) b11 b12 b13 b14 b15 b16 b17 := by
    have h93 : tp_ok Q (tp_gd Q h t w) c s = true → wX_extend_93 post (nI c) (tp_pm p) (nI s.2.2.1) (tp_i (tp_own Q c)) (tp_cm Q c s) n (nI (l.length - 1)) r t (tp_pm w) pl (Q 1) (Q 2) (Q 3) (Q 4) (Q 5) (Q 6) (Q 7) (Q 8) h (Q 10) b11 b12 b13 b14 b15 b16 b17 := by
      intro z
      have z1 := H1 z
      unfold tp_lf at z1
      unfold wX_extend_93
      refine tp_ib (fun ho => ?_) (fun ho => ?_)
      · refine pk_eq s.2.2.1 4 (fun e => ?_) (fun e => ?_)
        · rw [if_pos (Or.inr e)] at z1
          exact z1
        · rw [if_neg (fun y => y.elim (fun y => by rw [ho] at y; exact absurd y (by decide)) e)] at z1
          have hne : ¬ s.2.2.1 = 0 := by
            rcases (tp_ok_iff.mp z).2.2.2.2 with y | y
            · rw [ho] at y
              exact absurd y (by decide)
            · exact y.1
          have e1 : nI s.2.2.1 - 1 = nI (s.2.2.1 - 1) := pk_sub (a := s.2.2.1) (b := 1) (by omega)
          rw [e1]
          exact z1
      · rw [if_pos (Or.inl ho)] at z1
        exact z1
    unfold wX_extend_14
    rw [hcl4, hcl0]
    refine wq_own hc (wq_common hd ⟨hin4, nm_r (e' := tp_cm Q c s) rfl ⟨hin0, ?_⟩⟩)
    unfold tp_ok at H0 h93
    refine ⟨fun e => H0 ?_, fun e => wq_good hc hw (tp_ib (fun e1 => H0 ?_) (fun e1 => wq_signed hc hd (tp_ib (fun e2 => H0 ?_) (fun e2 => ⟨fun e3 => H0 ?_, fun e3 => tp_ib (fun e4 => ?_) (fun e4 => h93 ?_)⟩))))⟩
    · rw [tp_dn e]
      rfl
    · rw [e1, Bool.false_and, Bool.and_false]
    · rw [e2, Bool.false_and, Bool.and_false, Bool.and_false]
    · rw [tp_dn e3, Bool.false_and, Bool.and_false, Bool.and_false, Bool.and_false]
    · refine pk_eq s.2.2.1 0 (fun e5 => H0 ?_) (fun e5 => wq_isOpen hc hd (tp_ib (fun e6 => H0 ?_) (fun e6 => h93 ?_)))
      · rw [e4, tp_dn e5, Bool.false_and, Bool.or_false, Bool.and_false, Bool.and_false, Bool.and_false, Bool.and_false]
      · rw [e4, e6, Bool.and_false, Bool.or_false, Bool.and_false, Bool.and_false, Bool.and_false, Bool.and_false]
      · rw [decide_eq_true e, e1, e2, decide_eq_true e3, e6, decide_eq_true (e5 : ¬ s.2.2.1 = 0), e4]
        rfl
    · rw [decide_eq_true e, e1, e2, decide_eq_true e3, e4]
      rfl
  unfold wpX_extend
  dsimp only
  rcases hd with ⟨rfl, rfl⟩ | ⟨k, rfl, hk, h1, h2, h3, h4, h5, h6⟩
  · exact br_f (by decide) main
  · refine br_t (nI_pos' (by omega)) ⟨vp_in_nI hk (by decide), ?_⟩
    have e : b13 (tp_pm (k + 1)).toNatClampNeg = nI s.2.2.1 := by
      rw [tp_pmS, nI_clamp (by omega), h5]
    rw [e]
    exact main
end
end
section
/-! ===== findStates ===== -/
theorem tp_fs_lo (Q : Nat → Nat → Int32) (g : Nat → Bool) (n : Nat) : ∀ i, 1 ≤ (tp_fs Q g n i).1.length ∧ (tp_fs Q g n i).2 ≤ (tp_fs Q g n i).1.length
  | 0 => ⟨Nat.le_refl 1, Nat.zero_le _⟩
  | i + 1 => by
    obtain ⟨r, hr⟩ := tp_fs_ext Q g n i
    have ih := (tp_fs_lo Q g n i).1
    have e : (tp_fs Q g n (i + 1)).2 = (tp_fs Q g n i).1.length := rfl
    rw [e, hr, List.length_append]
    omega
section
variable {Q : Nat → Nat → Int32} {h : Nat → Int32} {r t pl : Int32} {b11 b12 b13 b14 b15 b16 b17 : Nat → Int32}
theorem wq_fs24 {post : St1 → Prop} {n w : Nat} (h0 : 0 < n) (hn : n ≤ 10) (hw : w ≤ 12) (hset : tp_set Q)
    (H : ∀ b11 b12 b13 b14 b15, tp_Rep (tp_fs Q (tp_gd Q h t w) n 1).1 b11 b12 b13 b14 b15 → ∃ fu, wX_findStates_61 post fu 2 (nI n) (nI ((tp_fs Q (tp_gd Q h t w) n 1).1.length - 1)) 1 t (tp_pm w) pl (Q 1) (Q 2) (Q 3) (Q 4) (Q 5) (Q 6) (Q 7) (Q 8) h (Q 10) b11 b12 b13 b14 b15 (upd b16 1 (nI ((tp_fs Q (tp_gd Q h t w) n 1).1.length - 1))) b17) :
    ∃ fu, wX_findStates_24 post fu 0 (nI n) 0 r t (tp_pm w) pl (Q 1) (Q 2) (Q 3) (Q 4) (Q 5) (Q 6) (Q 7) (Q 8) h (Q 10) b11 b12 b13 b14 b15 b16 b17 := by
  have e1 : tp_rd Q (tp_gd Q h t w) n 0 n [tp_root] = (tp_fs Q (tp_gd Q h t w) n 1).1 := by
    show _ = tp_rd Q (tp_gd Q h t w) n 0 ((1 - 0) * n) [tp_root]
    rw [Nat.sub_zero, Nat.one_mul]
  refine pk_loop (fun fu i (s : (Nat → Int32) × (Nat → Int32) × (Nat → Int32) × (Nat → Int32) × (Nat → Int32)) => wX_findStates_24 post fu (nI i) (nI n) (nI ((tp_rd Q (tp_gd Q h t w) n 0 i [tp_root]).length - 1)) r t (tp_pm w) pl (Q 1) (Q 2) (Q 3) (Q 4) (Q 5) (Q 6) (Q 7) (Q 8) h (Q 10) s.1 s.2.1 s.2.2.1 s.2.2.2.1 s.2.2.2.2 b16 b17) (fun i s => tp_Rep (tp_rd Q (tp_gd Q h t w) n 0 i [tp_root]) s.1 s.2.1 s.2.2.1 s.2.2.2.1 s.2.2.2.2) n 0 (b11, b12, b13, b14, b15) (by omega) ?_ ?_ ?_
  · refine ⟨rfl, (show 1 ≤ 1025 by decide), fun k s hs => ?_⟩
    have : k + 1 < 1 := tp_lt hs
    omega
  · intro fu s hI
    refine pk_le n n (fun _ => nm_e ?_) (fun z => absurd z (by omega))
    rw [e1] at hI ⊢
    exact H _ _ _ _ _ hI
  · intro fu i s hi hI hw'
    refine pk_le n i (fun z => absurd z (by omega)) (fun _ => ?_)
    have e2 : tp_rd Q (tp_gd Q h t w) n 0 (i + 1) [tp_root] = tp_ex Q (tp_gd Q h t w) i 0 (tp_rd Q (tp_gd Q h t w) n 0 i [tp_root]) := by
      show tp_ex Q (tp_gd Q h t w) (i % n) (0 + i / n) _ = _
      rw [Nat.mod_eq_of_lt hi, Nat.div_eq_of_lt hi]
    rw [e2] at hw'
    refine wq_extend (p := 0) (by omega) hw hset hI hI.1 (fun c11 c12 c13 c14 c15 hR => ?_)
    exact nm_r (nI_1 i) (hw' (c11, c12, c13, c14, c15) hR)
theorem wq_fs94 {post : St1 → Prop} {J : Int32 → Int32 → Int32 → Int32 → Int32 → Int32 → Int32 → (Nat → Int32) → (Nat → Int32) → (Nat → Int32) → (Nat → Int32) → (Nat → Int32) → (Nat → Int32) → (Nat → Int32) → (Nat → Int32) → (Nat → Int32) → (Nat → Int32) → (Nat → Int32) → (Nat → Int32) → (Nat → Int32) → (Nat → Int32) → (Nat → Int32) → (Nat → Int32) → (Nat → Int32) → Prop} {n w i B : Nat} {l : List tp_S} (h0 : 0 < n) (hn : n ≤ 10) (hw : w ≤ 12) (hset : tp_set Q) (hi : i ≤ 4) (hB : 1 ≤ B) (hBl : B ≤ l.length)
    (hR : tp_Rep l b11 b12 b13 b14 b15)
    (H : ∀ b11 b12 b13 b14 b15, tp_Rep (tp_rd Q (tp_gd Q h t w) n B ((l.length - B) * n) l) b11 b12 b13 b14 b15 → J (nI (i + 2)) (nI n) (nI ((tp_rd Q (tp_gd Q h t w) n B ((l.length - B) * n) l).length - 1)) (nI (i + 1)) t (tp_pm w) pl (Q 1) (Q 2) (Q 3) (Q 4) (Q 5) (Q 6) (Q 7) (Q 8) h (Q 10) b11 b12 b13 b14 b15 (upd b16 (i + 1) (nI ((tp_rd Q (tp_gd Q h t w) n B ((l.length - B) * n) l).length - 1))) b17) :
    ∃ fu, wX_findStates_94 post J (nI (i + 1)) (nI (B - 1)) (nI (l.length - 1)) fu 0 (nI n) (nI (l.length - 1)) (nI i) t (tp_pm w) pl (Q 1) (Q 2) (Q 3) (Q 4) (Q 5) (Q 6) (Q 7) (Q 8) h (Q 10) b11 b12 b13 b14 b15 b16 b17 := by
  have hl := hR.2.1
  have hmul : (l.length - B) * n ≤ 1025 * 10 := Nat.mul_le_mul (by omega) hn
  have ee : (nI (l.length - 1) - nI (B - 1)) * nI n = nI ((l.length - B) * n) := by
    rw [pk_sub (by omega), pk_mul]
    congr 2
    omega
  refine pk_loop (fun fu k (s : (Nat → Int32) × (Nat → Int32) × (Nat → Int32) × (Nat → Int32) × (Nat → Int32)) => wX_findStates_94 post J (nI (i + 1)) (nI (B - 1)) (nI (l.length - 1)) fu (nI k) (nI n) (nI ((tp_rd Q (tp_gd Q h t w) n B k l).length - 1)) (nI i) t (tp_pm w) pl (Q 1) (Q 2) (Q 3) (Q 4) (Q 5) (Q 6) (Q 7) (Q 8) h (Q 10) s.1 s.2.1 s.2.2.1 s.2.2.2.1 s.2.2.2.2 b16 b17) (fun k s => tp_Rep (tp_rd Q (tp_gd Q h t w) n B k l) s.1 s.2.1 s.2.2.1 s.2.2.2.1 s.2.2.2.2) ((l.length - B) * n) 0 (b11, b12, b13, b14, b15) (by omega) hR ?_ ?_
  · intro fu s hI
    refine pk_le ((l.length - B) * n) ((l.length - B) * n) (fun _ => nm_r (nI_1 i) ⟨vp_in_nI (by omega) (by decide), nm_r (by rw [nI_clamp (by omega)]) (nm_r (nI_1 (i + 1)) ?_)⟩) (fun z => absurd z (by omega)) ee rfl
    exact H _ _ _ _ _ hI
  · intro fu k s hk hI hw'
    refine pk_le ((l.length - B) * n) k (fun z => absurd z (by omega)) (fun _ => ?_) ee rfl
    have hn0 : ¬ nI n = 0 := nI_ne0 h0 (by omega)
    have hdiv : k / n < l.length - B := (Nat.div_lt_iff_lt_mul h0).mpr (by omega)
    have hmod : k % n < n := Nat.mod_lt k h0
    obtain ⟨rr, hrr⟩ := tp_rd_ext Q (tp_gd Q h t w) n B k l
    have hlen : l.length ≤ (tp_rd Q (tp_gd Q h t w) n B k l).length := by rw [hrr, List.length_append]; omega
    have e1 : nI k - nI k / nI n * nI n = nI (k % n) := pk_rem (by omega) h0 (by omega)
    have e2 : nI (B - 1) + nI k / nI n = tp_pm (B + k / n) := by
      rw [pk_div (by omega) h0 (by omega), nI_add]
      have : B + k / n = (B - 1 + k / n) + 1 := by omega
      rw [this, tp_pmS]
    obtain ⟨s', hs'⟩ := tp_at (l := tp_rd Q (tp_gd Q h t w) n B k l) (j := B + k / n) (by omega)
    refine ⟨hn0, hn0, ?_⟩
    rw [e1, e2]
    refine wq_extend (by omega) hw hset hI hs' (fun c11 c12 c13 c14 c15 hR => ?_)
    exact nm_r (nI_1 k) (hw' (c11, c12, c13, c14, c15) hR)
theorem wq_fs61 {post : St1 → Prop} {n w : Nat} (h0 : 0 < n) (hn : n ≤ 10) (hw : w ≤ 12) (hset : tp_set Q)
    (H : ∀ b11 b12 b13 b14 b15 b16, tp_Rep (tp_all Q (tp_gd Q h t w) n) b11 b12 b13 b14 b15 → post (nI n, nI ((tp_all Q (tp_gd Q h t w) n).length - 1), 5, t, tp_pm w, pl, Q 1, Q 2, Q 3, Q 4, Q 5, Q 6, Q 7, Q 8, h, Q 10, b11, b12, b13, b14, b15, b16, b17))
    (hR : tp_Rep (tp_fs Q (tp_gd Q h t w) n 1).1 b11 b12 b13 b14 b15) (h16 : b16 0 = 0) (h161 : b16 1 = nI ((tp_fs Q (tp_gd Q h t w) n 1).1.length - 1)) :
    ∃ fu, wX_findStates_61 post fu 2 (nI n) (nI ((tp_fs Q (tp_gd Q h t w) n 1).1.length - 1)) 1 t (tp_pm w) pl (Q 1) (Q 2) (Q 3) (Q 4) (Q 5) (Q 6) (Q 7) (Q 8) h (Q 10) b11 b12 b13 b14 b15 b16 b17 := by
  refine pk_loop (fun fu i (s : (Nat → Int32) × (Nat → Int32) × (Nat → Int32) × (Nat → Int32) × (Nat → Int32) × (Nat → Int32)) => wX_findStates_61 post fu (nI (i + 1)) (nI n) (nI ((tp_fs Q (tp_gd Q h t w) n i).1.length - 1)) (nI i) t (tp_pm w) pl (Q 1) (Q 2) (Q 3) (Q 4) (Q 5) (Q 6) (Q 7) (Q 8) h (Q 10) s.1 s.2.1 s.2.2.1 s.2.2.2.1 s.2.2.2.2.1 s.2.2.2.2.2 b17) (fun i s => 1 ≤ i ∧ tp_Rep (tp_fs Q (tp_gd Q h t w) n i).1 s.1 s.2.1 s.2.2.1 s.2.2.2.1 s.2.2.2.2.1 ∧ s.2.2.2.2.2 (i - 1) = nI ((tp_fs Q (tp_gd Q h t w) n i).2 - 1) ∧ s.2.2.2.2.2 i = nI ((tp_fs Q (tp_gd Q h t w) n i).1.length - 1)) 5 1 (b11, b12, b13, b14, b15, b16) (by omega) ?_ ?_ ?_
  · exact ⟨Nat.le_refl 1, hR, h16, h161⟩
  · intro fu s hI
    exact pk_le 6 6 (fun _ => H _ _ _ _ _ _ hI.2.1) (fun z => absurd z (by omega))
  · intro fu i s hi hI hw'
    obtain ⟨hi1, hR', g1, g2⟩ := hI
    have e1 : nI i - 1 = nI (i - 1) := pk_sub (a := i) (b := 1) hi1
    have hlo := tp_fs_lo Q (tp_gd Q h t w) n i
    have hB1 : 1 ≤ (tp_fs Q (tp_gd Q h t w) n i).2 := by
      obtain ⟨j, rfl⟩ : ∃ j, i = j + 1 := ⟨i - 1, by omega⟩
      exact (tp_fs_lo Q (tp_gd Q h t w) n j).1
    refine pk_le 6 (i + 1) (fun z => absurd z (by omega)) (fun _ => ?_)
    rw [e1]
    refine ⟨vp_in_nI (by omega) (by decide), nm_r (by rw [nI_clamp (by omega), g1]) ⟨vp_in_nI (by omega) (by decide), nm_r (by rw [nI_clamp (by omega), g2]) ?_⟩⟩
    refine wq_fs94 h0 hn hw hset (by omega) hB1 hlo.2 hR' (fun c11 c12 c13 c14 c15 hR'' => ?_)
    refine hw' (c11, c12, c13, c14, c15, _) ⟨by omega, hR'', ?_, pk_us⟩
    show upd s.2.2.2.2.2 (i + 1) _ (i + 1 - 1) = nI ((tp_fs Q (tp_gd Q h t w) n i).1.length - 1)
    rw [Nat.add_sub_cancel, pk_un (by omega)]
    exact g2
theorem wq_find {post : St1 → Prop} {n w : Nat} {S tm wo : Int32} (h0 : 0 < n) (hn : n ≤ 10) (hw : w ≤ 12) (hset : tp_set Q)
    (H : ∀ b11 b12 b13 b14 b15 b16, tp_Rep (tp_all Q (tp_gd Q h tm w) n) b11 b12 b13 b14 b15 → post (nI n, nI ((tp_all Q (tp_gd Q h tm w) n).length - 1), 5, tm, tp_pm w, pl, Q 1, Q 2, Q 3, Q 4, Q 5, Q 6, Q 7, Q 8, h, Q 10, b11, b12, b13, b14, b15, b16, b17)) :
    wpX_findStates post (nI n, S, r, t, wo, pl, Q 1, Q 2, Q 3, Q 4, Q 5, Q 6, Q 7, Q 8, h, Q 10, b11, b12, b13, b14, b15, b16, b17) tm (tp_pm w) := by
  unfold wpX_findStates
  dsimp only
  refine nm_e (wq_fs24 h0 hn hw hset (fun c11 c12 c13 c14 c15 hR => ?_))
  refine wq_fs61 h0 hn hw hset H hR ?_ pk_us
  rw [pk_un (by decide)]
  exact pk_us
end
end
section
/-! ===== firstFor, trustedSet, ones, policiesFor, findPath ===== -/
def tp_ff (Q : Nat → Nat → Int32) (g : Nat → Bool) (l : List tp_S) (c : Nat) : Option Nat := l.findIdx? (tp_ew Q g c)
def tp_fv : Option Nat → Int32
  | none => -2
  | some p => tp_pm p
theorem tp_ff_some {Q : Nat → Nat → Int32} {g : Nat → Bool} {l : List tp_S} {c p : Nat} {s : tp_S} (hs : l[p]? = some s) (he : tp_ew Q g c s = true) (hb : ∀ k, k < p → ∀ s, l[k]? = some s → tp_ew Q g c s = false) : tp_ff Q g l c = some p := by
  unfold tp_ff
  rw [List.findIdx?_eq_some_iff_getElem]
  have hp := tp_lt hs
  refine ⟨hp, ?_, fun j hj z => ?_⟩
  · rw [List.getElem?_eq_getElem hp] at hs
    rw [Option.some.inj hs]
    exact he
  · have := hb j hj _ (List.getElem?_eq_getElem (by omega))
    rw [this] at z
    exact absurd z (by decide)
theorem tp_ff_none {Q : Nat → Nat → Int32} {g : Nat → Bool} {l : List tp_S} {c : Nat} (hb : ∀ k, k < l.length → ∀ s, l[k]? = some s → tp_ew Q g c s = false) : tp_ff Q g l c = none := by
  unfold tp_ff
  rw [List.findIdx?_eq_none_iff]
  intro s hs
  obtain ⟨k, hk, e⟩ := List.getElem_of_mem hs
  exact hb k hk s (by rw [List.getElem?_eq_getElem hk, e])
theorem tp_ff_spec {Q : Nat → Nat → Int32} {g : Nat → Bool} {l : List tp_S} {c p : Nat} (h : tp_ff Q g l c = some p) : ∃ s, l[p]? = some s ∧ tp_ew Q g c s = true := by
  unfold tp_ff at h
  rw [List.findIdx?_eq_some_iff_getElem] at h
  obtain ⟨hp, he, _⟩ := h
  exact ⟨l[p], List.getElem?_eq_getElem hp, he⟩
theorem tp_ff_any {Q : Nat → Nat → Int32} {g : Nat → Bool} {l : List tp_S} {c : Nat} : (tp_ff Q g l c).isSome = l.any (tp_ew Q g c) := List.findIdx?_isSome
theorem tp_fvb {Q : Nat → Nat → Int32} {g : Nat → Bool} {l : List tp_S} {c : Nat} {A B : Prop} (hl : l.length ≤ 1025) (f : l.any (tp_ew Q g c) = false → A) (k : l.any (tp_ew Q g c) = true → B) : (tp_fv (tp_ff Q g l c) = -2 → A) ∧ (¬ tp_fv (tp_ff Q g l c) = -2 → B) := by
  rw [← tp_ff_any] at f k
  cases e : tp_ff Q g l c with
  | none =>
    rw [e] at f
    exact ⟨fun _ => f rfl, fun z => absurd rfl z⟩
  | some p =>
    rw [e] at k
    obtain ⟨s, hs, _⟩ := tp_ff_spec e
    have hp := tp_lt hs
    refine ⟨fun z => ?_, fun _ => k rfl⟩
    exfalso
    have z : tp_pm p = -2 := z
    cases p with
    | zero => exact absurd z (by decide)
    | succ q =>
      rw [tp_pmS] at z
      have h1 : (0 : Int32) ≤ nI q := nI_pos' (by omega)
      rw [z] at h1
      exact absurd h1 (by decide)
section
variable {Q : Nat → Nat → Int32} {h : Nat → Int32} {n S r t wo pl : Int32} {b11 b12 b13 b14 b15 b16 b17 : Nat → Int32}
theorem wq_first {post : Int32 → Prop} {l : List tp_S} {c w : Nat} (hc : c < 12) (hw : w ≤ 12) (hR : tp_Rep l b11 b12 b13 b14 b15) (H : post (tp_fv (tp_ff Q (tp_gd Q h t w) l c))) :
    wpX_firstFor post (n, nI (l.length - 1), r, t, tp_pm w, pl, Q 1, Q 2, Q 3, Q 4, Q 5, Q 6, Q 7, Q 8, h, Q 10, b11, b12, b13, b14, b15, b16, b17) (nI c) := by
  have h0 := tp_lt hR.1
  have hl := hR.2.1
  unfold wpX_firstFor
  dsimp only
  refine wq_ends (p := 0) (s := tp_root) hc hw (Or.inl ⟨rfl, rfl⟩) (tp_ib (fun e => ?_) (fun e => ?_))
  · refine pk_loop (σ := Unit) (fun fu i _ => wX_firstFor_13 post (nI c) n (nI (l.length - 1)) r t (tp_pm w) pl (Q 1) (Q 2) (Q 3) (Q 4) (Q 5) (Q 6) (Q 7) (Q 8) h (Q 10) b11 b12 b13 b14 b15 b16 b17 fu (nI i)) (fun i _ => ∀ k, k < i + 1 → ∀ s, l[k]? = some s → tp_ew Q (tp_gd Q h t w) c s = false) (l.length - 1) 0 () (by omega) ?_ ?_ ?_
    · intro k hk s hs
      have e0 : k = 0 := by omega
      subst e0
      rw [hR.1] at hs
      rw [← Option.some.inj hs]
      exact e
    · intro fu _ hI
      refine pk_le (l.length - 1) (l.length - 1) (fun _ => ?_) (fun z => absurd z (by omega))
      rw [tp_ff_none (fun k hk s hs => hI k (by omega) s hs)] at H
      exact H
    · intro fu i _ hi hI hw'
      obtain ⟨s, hs⟩ := tp_at (l := l) (j := i + 1) (by omega)
      refine pk_le (l.length - 1) i (fun z => absurd z (by omega)) (fun _ => ?_)
      refine wq_ends (p := i + 1) (s := s) hc hw (tp_Rep_hd hR hs) (tp_ib (fun e => ?_) (fun e => ?_))
      · refine nm_r (nI_1 i) (hw' () (fun k hk s' hs' => ?_))
        by_cases ek : k = i + 1
        · subst ek
          rw [hs] at hs'
          rw [← Option.some.inj hs']
          exact e
        · exact hI k (by omega) s' hs'
      · rw [tp_ff_some hs e (fun k hk s' hs' => hI k hk s' hs')] at H
        exact H
  · rw [tp_ff_some hR.1 e (fun k hk => absurd hk (by omega))] at H
    exact H
theorem wq_tset {post : Int32 → Prop} {l : List tp_S} {m w : Nat} (hm : m ≤ 12) (hw : w ≤ 12) (hR : tp_Rep l b11 b12 b13 b14 b15)
    (H : ∀ v : Int32, (∀ c, c < 32 → tb_b v c = (decide (c < m) && l.any (tp_ew Q (tp_gd Q h t w) c))) → post v) :
    wpX_trustedSet post (nI m, nI (l.length - 1), r, t, tp_pm w, pl, Q 1, Q 2, Q 3, Q 4, Q 5, Q 6, Q 7, Q 8, h, Q 10, b11, b12, b13, b14, b15, b16, b17) := by
  have hl := hR.2.1
  unfold wpX_trustedSet
  dsimp only
  refine pk_loop (fun fu i (x : Int32) => wX_trustedSet_4 post (nI m) (nI (l.length - 1)) r t (tp_pm w) pl (Q 1) (Q 2) (Q 3) (Q 4) (Q 5) (Q 6) (Q 7) (Q 8) h (Q 10) b11 b12 b13 b14 b15 b16 b17 fu x (nI i)) (fun i x => ∀ c, c < 32 → tb_b x c = (decide (c < i) && l.any (tp_ew Q (tp_gd Q h t w) c))) m 0 0 (by omega) ?_ ?_ ?_
  · intro c _
    rw [tb_0, decide_eq_false (by omega)]
    rfl
  · intro fu x hI
    exact pk_le m m (fun _ => H x hI) (fun z => absurd z (by omega))
  · intro fu i x hi hI hw'
    refine pk_le m i (fun z => absurd z (by omega)) (fun _ => ?_)
    refine wq_first (by omega) hw hR (tp_fvb hl (fun e => ?_) (fun e => ?_))
    · refine nm_e (nm_r (nI_1 i) (hw' _ (fun c hc => ?_)))
      rw [tb_or, tb_0, Bool.or_false, hI c hc]
      by_cases ec : c = i
      · rw [ec, e, Bool.and_false, Bool.and_false]
      · by_cases hlt : c < i
        · rw [decide_eq_true hlt, decide_eq_true (by omega)]
        · rw [decide_eq_false hlt, decide_eq_false (by omega)]
    · refine nm_e (nm_r (nI_1 i) (hw' _ (fun c hc => ?_)))
      rw [tb_or, tb_one i (by omega) hc, hI c hc]
      by_cases ec : c = i
      · rw [ec, e, decide_eq_true (rfl : i = i), decide_eq_true (by omega : i < i + 1), Bool.or_true]
        rfl
      · rw [decide_eq_false ec, Bool.or_false]
        by_cases hlt : c < i
        · rw [decide_eq_true hlt, decide_eq_true (by omega)]
        · rw [decide_eq_false hlt, decide_eq_false (by omega)]
theorem wq_ones {post : Int32 → Prop} {x : Int32} (H : post (nI (tp_ct (tb_b x) 12))) : wpX_ones post () x := by
  unfold wpX_ones
  refine pk_loop (σ := Unit) (fun fu i _ => wX_ones_4 post x fu (nI (tp_ct (tb_b x) i)) (nI i)) (fun _ _ => True) 12 0 () (by omega) trivial ?_ ?_
  · intro fu _ _
    exact pk_le 12 12 (fun _ => H) (fun z => absurd z (by omega))
  · intro fu i _ hi _ hw'
    refine pk_le 12 i (fun z => absurd z (by omega)) (fun _ => nm_r ?_ (nm_r (nI_1 i) (hw' () trivial)))
    rw [tb_bit i (by omega) x]
    show _ = nI (tp_ct (tb_b x) i + (if tb_b x i = true then 1 else 0))
    by_cases e : tb_b x i = true
    · rw [if_pos e, if_pos e]
      exact nI_1 _
    · rw [if_neg e, if_neg e]
      exact nI_add _ 0
theorem wq_pols {post : Int32 → Prop} {l : List tp_S} {c w : Nat} (hc : c < 12) (hw : w ≤ 12) (hR : tp_Rep l b11 b12 b13 b14 b15)
    (H : ∀ v : Int32, (v = 0 ↔ l.any (tp_ew Q (tp_gd Q h t w) c) = false) → post v) :
    wpX_policiesFor post (n, nI (l.length - 1), r, t, tp_pm w, pl, Q 1, Q 2, Q 3, Q 4, Q 5, Q 6, Q 7, Q 8, h, Q 10, b11, b12, b13, b14, b15, b16, b17) (nI c) := by
  have h0 := tp_lt hR.1
  have hl := hR.2.1
  obtain ⟨hin, hcl⟩ := wq_i5 (x := nI c) 4 hc (by decide) rfl (rfl : (4 : Int32) = nI 4)
  have main : ∀ v : Int32, (v = 0 ↔ tp_ew Q (tp_gd Q h t w) c tp_root = false) → ∃ fu, wX_policiesFor_26 post (nI c) n (nI (l.length - 1)) r t (tp_pm w) pl (Q 1) (Q 2) (Q 3) (Q 4) (Q 5) (Q 6) (Q 7) (Q 8) h (Q 10) b11 b12 b13 b14 b15 b16 b17 fu v 0 := by
    intro v hv
    refine pk_loop (fun fu i (x : Int32) => wX_policiesFor_26 post (nI c) n (nI (l.length - 1)) r t (tp_pm w) pl (Q 1) (Q 2) (Q 3) (Q 4) (Q 5) (Q 6) (Q 7) (Q 8) h (Q 10) b11 b12 b13 b14 b15 b16 b17 fu x (nI i)) (fun i x => x = 0 ↔ ∀ k, k < i + 1 → ∀ s, l[k]? = some s → tp_ew Q (tp_gd Q h t w) c s = false) (l.length - 1) 0 v (by omega) ?_ ?_ ?_
    · rw [hv]
      constructor
      · intro e k hk s hs
        have e0 : k = 0 := by omega
        subst e0
        rw [hR.1] at hs
        rw [← Option.some.inj hs]
        exact e
      · intro z
        exact z 0 (by omega) _ hR.1
    · intro fu x hI
      refine pk_le (l.length - 1) (l.length - 1) (fun _ => H x ?_) (fun z => absurd z (by omega))
      rw [hI, List.any_eq_false]
      constructor
      · intro z s hs hb
        obtain ⟨k, hk, e⟩ := List.getElem_of_mem hs
        have := z k (by omega) s (by rw [List.getElem?_eq_getElem hk, e])
        rw [this] at hb
        exact absurd hb (by decide)
      · intro z k hk s hs
        have := z s (List.mem_of_getElem? hs)
        cases hb : tp_ew Q (tp_gd Q h t w) c s
        · rfl
        · exact absurd hb this
    · intro fu i x hi hI hw'
      obtain ⟨s, hs⟩ := tp_at (l := l) (j := i + 1) (by omega)
      have nx : tp_ew Q (tp_gd Q h t w) c s = false → ((∀ k, k < i + 1 → ∀ s, l[k]? = some s → tp_ew Q (tp_gd Q h t w) c s = false) ↔ (∀ k, k < i + 1 + 1 → ∀ s, l[k]? = some s → tp_ew Q (tp_gd Q h t w) c s = false)) := by
        intro e
        constructor
        · intro z k hk s' hs'
          by_cases ek : k = i + 1
          · subst ek
            rw [hs] at hs'
            rw [← Option.some.inj hs']
            exact e
          · exact z k (by omega) s' hs'
        · intro z k hk s' hs'
          exact z k (by omega) s' hs'
      refine pk_le (l.length - 1) i (fun z => absurd z (by omega)) (fun _ => ?_)
      refine wq_ends (p := i + 1) (s := s) hc hw (tp_Rep_hd hR hs) (tp_ib (fun e => ?_) (fun e => ?_))
      · refine nm_r (e' := x) ?_ (nm_r (nI_1 i) (hw' x (hI.trans (nx e))))
        apply tb_ext
        intro j _
        rw [tb_or, tb_0, Bool.or_false]
      · refine ⟨vp_in_nI (by omega) (by decide), hin, ?_⟩
        have e14 : b14 (nI i).toNatClampNeg &&& Q 7 (5 * c + 4) = tp_cm Q c s := by
          rw [nI_clamp (by omega), (hR.2.2 i s hs).2.2.2.2.2.2.1]
          rfl
        rw [hcl, e14]
        refine nm_e (nm_r (nI_1 i) (hw' _ ⟨fun z => ?_, fun z => ?_⟩))
        · exfalso
          obtain ⟨j, hj, hb⟩ := tb_nz (tp_ew_iff.mp e).2.2.2
          have := tb_zero.mp z j hj
          rw [tb_or, hb, Bool.or_true] at this
          exact absurd this (by decide)
        · exfalso
          have := z (i + 1) (by omega) s hs
          rw [e] at this
          exact absurd this (by decide)
  unfold wpX_policiesFor
  dsimp only
  refine wq_ends (p := 0) (s := tp_root) hc hw (Or.inl ⟨rfl, rfl⟩) (tp_ib (fun e => ?_) (fun e => ?_))
  · exact main 0 ⟨fun _ => e, fun _ => rfl⟩
  · rw [hcl]
    refine ⟨hin, nm_e (main _ ⟨fun z => ?_, fun z => ?_⟩)⟩
    · exfalso
      have h1 := (tp_ew_iff.mp e).2.2.2
      apply h1
      show (15 : Int32) &&& Q 7 (5 * c + 4) = 0
      rw [z]
      rfl
    · rw [e] at z
      exact absurd z (by decide)
theorem wq_fp21 {post : Int32 → St1 → Prop} {x1 x2 : Int32} {g : Nat → Bool} {N m : Nat} {l : List tp_S} {P : Nat → List Nat} (hI : tp_Inv Q g N m l P) (hR : tp_Rep l b11 b12 b13 b14 b15) : ∀ j, j < l.length → ∀ x, (∀ fu, wX_findPath_21 post x1 x2 n S r t wo (Q 1) (Q 2) (Q 3) (Q 4) (Q 5) (Q 6) (Q 7) (Q 8) h (Q 10) b11 b12 b13 b14 b15 b16 b17 (fu + 1) (-1) (nI (x + (P j).length))) → ∃ fu, wX_findPath_21 post x1 x2 n S r t wo (Q 1) (Q 2) (Q 3) (Q 4) (Q 5) (Q 6) (Q 7) (Q 8) h (Q 10) b11 b12 b13 b14 b15 b16 b17 fu (tp_pm j) (nI x) := by
  have hl := hR.2.1
  intro j
  induction j using Nat.strongRecOn with
  | _ j ih =>
    intro hj x H
    by_cases h0 : j = 0
    · subst h0
      rw [hI.2.1] at H
      exact ⟨1, H 0⟩
    · obtain ⟨k, rfl⟩ : ∃ k, j = k + 1 := ⟨j - 1, by omega⟩
      obtain ⟨s, hs⟩ := tp_at hj
      obtain ⟨p, c, s', hc, hp, hm, hl', hok, hsn, hP⟩ := hI.2.2.2.1 (k + 1) s hs (by omega)
      have h15 := (hR.2.2 k s hs).2.2.2.2.2.2.2
      rw [hsn] at h15
      have h15 : b15 k = tp_pm p := h15
      rw [hP, List.length_append] at H
      have H : ∀ fu, wX_findPath_21 post x1 x2 n S r t wo (Q 1) (Q 2) (Q 3) (Q 4) (Q 5) (Q 6) (Q 7) (Q 8) h (Q 10) b11 b12 b13 b14 b15 b16 b17 (fu + 1) (-1) (nI (x + ((P p).length + 1))) := H
      obtain ⟨fu, hfu⟩ := ih p hp (by omega) (x + 1) (by rw [show x + 1 + (P p).length = x + ((P p).length + 1) by omega]; exact H)
      refine ⟨fu + 1, br_f (nI_pos (by omega)) (nm_r (nI_1 x) ⟨vp_in_nI (by omega) (by decide), nm_r ?_ hfu⟩)⟩
      rw [tp_pmS, nI_clamp (by omega), h15]
theorem wq_fp62 {post : Int32 → St1 → Prop} {g : Nat → Bool} {N m : Nat} {l : List tp_S} {P : Nat → List Nat} (hI : tp_Inv Q g N m l P) (hR : tp_Rep l b11 b12 b13 b14 b15) : ∀ j, j < l.length → (P j).length ≤ 6 → ∀ b17 : Nat → Int32, (∀ b17' : Nat → Int32, (∀ i e, (P j)[i]? = some e → b17' i = nI e) → (∀ i, (P j).length ≤ i → b17' i = b17 i) → post 1 (n, S, r, t, wo, pl, Q 1, Q 2, Q 3, Q 4, Q 5, Q 6, Q 7, Q 8, h, Q 10, b11, b12, b13, b14, b15, b16, b17')) → ∃ fu, wX_findPath_62 post n S r t wo pl fu (nI (P j).length) (tp_pm j) (Q 1) (Q 2) (Q 3) (Q 4) (Q 5) (Q 6) (Q 7) (Q 8) h (Q 10) b11 b12 b13 b14 b15 b16 b17 := by
  have hl := hR.2.1
  intro j
  induction j using Nat.strongRecOn with
  | _ j ih =>
    intro hj h6 b17 H
    by_cases h0 : j = 0
    · subst h0
      refine ⟨1, br_t (by decide) (H b17 (fun i e he => ?_) (fun _ _ => rfl))⟩
      rw [hI.2.1] at he
      exact absurd he (by simp)
    · obtain ⟨k, rfl⟩ : ∃ k, j = k + 1 := ⟨j - 1, by omega⟩
      obtain ⟨s, hs⟩ := tp_at hj
      obtain ⟨p, c, s', hc, hp, hm, hl', hok, hsn, hP⟩ := hI.2.2.2.1 (k + 1) s hs (by omega)
      obtain ⟨_, _, _, h11, _, _, _, h15⟩ := hR.2.2 k s hs
      rw [hsn] at h15 h11
      have h15 : b15 k = tp_pm p := h15
      have h11 : b11 k = nI c := h11
      have hlen : (P (k + 1)).length = (P p).length + 1 := by rw [hP, List.length_append]; rfl
      have hclk := nI_clamp (n := k) (by omega)
      rw [hlen]
      have hx : ∀ b17' : Nat → Int32, (∀ i e, (P p)[i]? = some e → b17' i = nI e) → (∀ i, (P p).length ≤ i → b17' i = upd b17 (P p).length (nI c) i) → post 1 (n, S, r, t, wo, pl, Q 1, Q 2, Q 3, Q 4, Q 5, Q 6, Q 7, Q 8, h, Q 10, b11, b12, b13, b14, b15, b16, b17') := by
        intro b17' k1 k2
        refine H b17' (fun i e he => ?_) (fun i hi => ?_)
        · rw [hP] at he
          by_cases hi : i < (P p).length
          · rw [List.getElem?_append_left hi] at he
            exact k1 i e he
          · have hi' := (List.getElem?_eq_some_iff.mp he).1
            rw [List.length_append] at hi'
            have hi' : i < (P p).length + 1 := hi'
            have ei : i = (P p).length := by omega
            rw [ei, List.getElem?_append_right (Nat.le_refl _), Nat.sub_self] at he
            have ec : c = e := by simpa using he
            rw [k2 i (by omega), ei, pk_us, ec]
        · rw [k2 i (by omega), pk_un (by omega)]
      obtain ⟨fu, hfu⟩ := ih p hp (by omega) (by omega) (upd b17 (P p).length (nI c)) hx
      refine ⟨fu + 1, br_f (nI_pos (by omega)) (nm_r (pk_m1 _) ⟨vp_in_nI (by omega) (by decide), vp_in_nI (by omega) (by decide), nm_r ?_ ⟨vp_in_nI (by omega) (by decide), nm_r ?_ hfu⟩⟩)⟩
      · rw [nI_clamp (by omega), tp_pmS, hclk, h11]
      · rw [tp_pmS, hclk, h15]
theorem wq_fpath {post : Int32 → St1 → Prop} {N m : Nat} {l : List tp_S} {P : Nat → List Nat} {c w : Nat} (hc : c < 12) (hw : w ≤ 12) (hI : tp_Inv Q (tp_gd Q h t w) N m l P) (hD : ∀ j, j < l.length → (P j).length ≤ 5) (hR : tp_Rep l b11 b12 b13 b14 b15)
    (H0 : tp_ff Q (tp_gd Q h t w) l c = none → post 0 (n, nI (l.length - 1), r, t, tp_pm w, pl, Q 1, Q 2, Q 3, Q 4, Q 5, Q 6, Q 7, Q 8, h, Q 10, b11, b12, b13, b14, b15, b16, b17))
    (H1 : ∀ p, tp_ff Q (tp_gd Q h t w) l c = some p → ∀ b17 : Nat → Int32, (∀ i e, (P p ++ [c])[i]? = some e → b17 i = nI e) → post 1 (n, nI (l.length - 1), r, t, tp_pm w, nI ((P p).length + 1), Q 1, Q 2, Q 3, Q 4, Q 5, Q 6, Q 7, Q 8, h, Q 10, b11, b12, b13, b14, b15, b16, b17)) :
    wpX_findPath post (n, nI (l.length - 1), r, t, tp_pm w, pl, Q 1, Q 2, Q 3, Q 4, Q 5, Q 6, Q 7, Q 8, h, Q 10, b11, b12, b13, b14, b15, b16, b17) (nI c) := by
  have hl := hR.2.1
  unfold wpX_findPath
  dsimp only
  refine wq_first hc hw hR ?_
  cases e : tp_ff Q (tp_gd Q h t w) l c with
  | none => exact br_t rfl (H0 e)
  | some p =>
    have z := tp_fvb (A := False) (B := True) (Q := Q) (g := tp_gd Q h t w) (l := l) (c := c) hl (fun z => by rw [← tp_ff_any, e] at z; exact absurd z (by simp)) (fun _ => trivial)
    rw [e] at z
    obtain ⟨s, hs, _⟩ := tp_ff_spec e
    have hp := tp_lt hs
    have hd := hD p hp
    refine br_f (fun y => z.1 y) ?_
    refine wq_fp21 hI hR p hp 1 (fun fu => br_t (by decide) (nm_r (e' := nI (P p).length) ?_ ⟨vp_in_nI (by omega) (by decide), nm_r (by rw [nI_clamp (by omega)]) ?_⟩))
    · rw [Nat.add_comm]
      exact pk_sub (a := (P p).length + 1) (b := 1) (by omega)
    · rw [Nat.add_comm 1 (P p).length]
      refine wq_fp62 hI hR p hp (by omega) _ (fun b17' k1 k2 => H1 p e b17' (fun i x hx => ?_))
      by_cases hi : i < (P p).length
      · rw [List.getElem?_append_left hi] at hx
        exact k1 i x hx
      · have hi' := (List.getElem?_eq_some_iff.mp hx).1
        rw [List.length_append] at hi'
        have hi' : i < (P p).length + 1 := hi'
        have ei : i = (P p).length := by omega
        rw [ei, List.getElem?_append_right (Nat.le_refl _), Nat.sub_self] at hx
        have ec : c = x := by simpa using hx
        rw [k2 i (by omega), ei, pk_us, ec]
end
end
section
/-! ===== the questions ===== -/
/-- a state of the object with these certificates, whatever the search left -/
def tp_U (n : Nat) (Q : Nat → Nat → Int32) (h : Nat → Int32) (u : St1) : Prop :=
  ∃ (S r t w pl : Int32) (b11 b12 b13 b14 b15 b16 b17 : Nat → Int32), u = (nI n, S, r, t, w, pl, Q 1, Q 2, Q 3, Q 4, Q 5, Q 6, Q 7, Q 8, h, Q 10, b11, b12, b13, b14, b15, b16, b17)
/-- good at a time -/
abbrev tp_g (Q : Nat → Nat → Int32) (h : Nat → Int32) (t w : Nat) : Nat → Bool := tp_gd Q h (nI t) w
theorem wq_time {post : Int32 → Prop} {t : Nat} (ht : t ≤ 100) (H : post 1) : wpX_isTime post () (nI t) := by
  unfold wpX_isTime
  exact br_f (nI_pos (by omega)) (pk_lt 100 t (fun z => absurd z (by omega)) (fun _ => H))
section
variable {Q : Nat → Nat → Int32} {h : Nat → Int32} {S r t wo pl : Int32} {b11 b12 b13 b14 b15 b16 b17 : Nat → Int32} {n : Nat}
theorem wq_cert {post : Int32 → Prop} {c : Nat} (hn : n ≤ 10) (hc : c < n) (H : post 1) : wpX_isCertificate post (nI n, S, r, t, wo, pl, Q 1, Q 2, Q 3, Q 4, Q 5, Q 6, Q 7, Q 8, h, Q 10, b11, b12, b13, b14, b15, b16, b17) (nI c) := by
  unfold wpX_isCertificate
  exact br_f (nI_pos (by omega)) (pk_le n c (fun z => absurd z (by omega)) (fun _ => H))
theorem wq_ncert {post : Int32 → Prop} {c : Nat} (hc : n ≤ c) (hc2 : c < 12) (H : post 0) : wpX_isCertificate post (nI n, S, r, t, wo, pl, Q 1, Q 2, Q 3, Q 4, Q 5, Q 6, Q 7, Q 8, h, Q 10, b11, b12, b13, b14, b15, b16, b17) (nI c) := by
  unfold wpX_isCertificate
  exact br_f (nI_pos (by omega)) (pk_le n c (fun _ => H) (fun z => absurd z (by omega)))
theorem wq_asked {post : Int32 → Prop} {c tm : Nat} (hn : n ≤ 10) (hc : c < n) (ht : tm ≤ 100) (H : post 1) : wpX_isAsked post (nI n, S, r, t, wo, pl, Q 1, Q 2, Q 3, Q 4, Q 5, Q 6, Q 7, Q 8, h, Q 10, b11, b12, b13, b14, b15, b16, b17) (nI c) (nI tm) := by
  unfold wpX_isAsked
  dsimp only
  exact wq_cert hn hc (br_f (by decide) (wq_time ht (br_f (by decide) H)))
theorem wq_nasked {post : Int32 → Prop} {c : Nat} {tm : Int32} (hc : n ≤ c) (hc2 : c < 12) (H : post 0) : wpX_isAsked post (nI n, S, r, t, wo, pl, Q 1, Q 2, Q 3, Q 4, Q 5, Q 6, Q 7, Q 8, h, Q 10, b11, b12, b13, b14, b15, b16, b17) (nI c) tm := by
  unfold wpX_isAsked
  dsimp only
  exact wq_ncert hc hc2 (br_t rfl H)
end
section
variable {Q : Nat → Nat → Int32} {h : Nat → Int32} {n : Nat} {u : St1}
theorem wq_trusted {post : Int32 → St1 → Prop} {c tm : Nat} (hu : tp_U n Q h u) (h0 : 0 < n) (hn : n ≤ 10) (hset : tp_set Q) (hc : c < n) (ht : tm ≤ 100)
    (H : ∀ u, tp_U n Q h u → post (tp_i (tp_tr Q (tp_g Q h tm 0) n c)) u) : wpX_trusted post u (nI c) (nI tm) := by
  obtain ⟨S, r, t, w, pl, b11, b12, b13, b14, b15, b16, b17, rfl⟩ := hu
  unfold wpX_trusted
  dsimp only
  refine wq_asked hn hc ht (br_f (by decide) (wq_find (w := 0) h0 hn (by omega) hset (fun c11 c12 c13 c14 c15 c16 hR => ?_)))
  refine wq_first (c := c) (w := 0) (by omega) (by omega) hR (tp_fvb hR.2.1 (fun e => ?_) (fun e => ?_))
  · have e' : tp_tr Q (tp_g Q h tm 0) n c = false := e
    rw [e'] at H
    exact H _ ⟨_, _, _, _, _, _, _, _, _, _, _, _, rfl⟩
  · have e' : tp_tr Q (tp_g Q h tm 0) n c = true := e
    rw [e'] at H
    exact H _ ⟨_, _, _, _, _, _, _, _, _, _, _, _, rfl⟩
theorem wq_ntrusted {post : Int32 → St1 → Prop} {c : Nat} {tm : Int32} (hu : tp_U n Q h u) (hc : n ≤ c) (hc2 : c < 12)
    (H : ∀ u, tp_U n Q h u → post (-1) u) : wpX_trusted post u (nI c) tm := by
  obtain ⟨S, r, t, w, pl, b11, b12, b13, b14, b15, b16, b17, rfl⟩ := hu
  unfold wpX_trusted
  dsimp only
  exact wq_nasked hc hc2 (br_t rfl (H _ ⟨_, _, _, _, _, _, _, _, _, _, _, _, rfl⟩))
theorem wq_count {post : Int32 → St1 → Prop} {tm : Nat} (hu : tp_U n Q h u) (h0 : 0 < n) (hn : n ≤ 10) (hset : tp_set Q) (ht : tm ≤ 100)
    (H : ∀ u, tp_U n Q h u → post (nI (tp_ct (tp_tr Q (tp_g Q h tm 0) n) n)) u) : wpX_count post u (nI tm) := by
  obtain ⟨S, r, t, w, pl, b11, b12, b13, b14, b15, b16, b17, rfl⟩ := hu
  unfold wpX_count
  dsimp only
  refine wq_time ht (br_f (by decide) (wq_find (w := 0) h0 hn (by omega) hset (fun c11 c12 c13 c14 c15 c16 hR => ?_)))
  refine wq_tset (m := n) (w := 0) (by omega) (by omega) hR (fun v hv => wq_ones ?_)
  have e1 : tp_ct (tb_b v) 12 = tp_ct (fun c => decide (c < n) && tp_tr Q (tp_g Q h tm 0) n c) 12 := tp_ct_congr 12 (fun c hc => hv c (by omega))
  have e2 : tp_ct (fun c => decide (c < n) && tp_tr Q (tp_g Q h tm 0) n c) 12 = tp_ct (fun c => decide (c < n) && tp_tr Q (tp_g Q h tm 0) n c) n := tp_ct_up 12 (fun c hc => by
    show (decide (c < n) && _) = false
    rw [decide_eq_false (by omega)]
    rfl) (by omega)
  have e3 : tp_ct (fun c => decide (c < n) && tp_tr Q (tp_g Q h tm 0) n c) n = tp_ct (tp_tr Q (tp_g Q h tm 0) n) n := tp_ct_congr n (fun c hc => by
    rw [decide_eq_true hc]
    rfl)
  rw [e1, e2, e3]
  exact H _ ⟨_, _, _, _, _, _, _, _, _, _, _, _, rfl⟩
theorem wq_depending {post : Int32 → St1 → Prop} {c tm : Nat} (hu : tp_U n Q h u) (h0 : 0 < n) (hn : n ≤ 10) (hset : tp_set Q) (hc : c < n) (ht : tm ≤ 100)
    (H : ∀ u, tp_U n Q h u → post (nI (tp_ct (fun x => tp_tr Q (tp_g Q h tm 0) n x && !tp_tr Q (tp_g Q h tm (c + 1)) n x) n)) u) : wpX_depending post u (nI c) (nI tm) := by
  obtain ⟨S, r, t, w, pl, b11, b12, b13, b14, b15, b16, b17, rfl⟩ := hu
  unfold wpX_depending
  dsimp only
  refine wq_asked hn hc ht (br_f (by decide) (wq_find (w := 0) h0 hn (by omega) hset (fun c11 c12 c13 c14 c15 c16 hR => ?_)))
  refine wq_tset (m := n) (w := 0) (by omega) (by omega) hR (fun v hv => ?_)
  refine wq_find (w := c + 1) h0 hn (by omega) hset (fun c11 c12 c13 c14 c15 c16 hR' => ?_)
  refine wq_tset (m := n) (w := c + 1) (by omega) (by omega) hR' (fun v' hv' => wq_ones ?_)
  have e1 : tp_ct (tb_b (v &&& (v' ^^^ (-1)))) 12 = tp_ct (fun x => decide (x < n) && (tp_tr Q (tp_g Q h tm 0) n x && !tp_tr Q (tp_g Q h tm (c + 1)) n x)) 12 := tp_ct_congr 12 (fun x hx => by
    rw [tb_and, tb_not _ (by omega), hv x (by omega), hv' x (by omega)]
    show _ = (decide (x < n) && (List.any _ _ && !List.any _ _))
    cases decide (x < n)
    · rfl
    · rfl)
  have e2 : tp_ct (fun x => decide (x < n) && (tp_tr Q (tp_g Q h tm 0) n x && !tp_tr Q (tp_g Q h tm (c + 1)) n x)) 12 = tp_ct (fun x => decide (x < n) && (tp_tr Q (tp_g Q h tm 0) n x && !tp_tr Q (tp_g Q h tm (c + 1)) n x)) n := tp_ct_up 12 (fun x hx => by
    show (decide (x < n) && _) = false
    rw [decide_eq_false (by omega)]
    rfl) (by omega)
  have e3 : tp_ct (fun x => decide (x < n) && (tp_tr Q (tp_g Q h tm 0) n x && !tp_tr Q (tp_g Q h tm (c + 1)) n x)) n = tp_ct (fun x => tp_tr Q (tp_g Q h tm 0) n x && !tp_tr Q (tp_g Q h tm (c + 1)) n x) n := tp_ct_congr n (fun x hx => by
    rw [decide_eq_true hx]
    rfl)
  rw [e1, e2, e3]
  exact H _ ⟨_, _, _, _, _, _, _, _, _, _, _, _, rfl⟩
theorem wq_policies {post : Int32 → St1 → Prop} {c tm : Nat} (hu : tp_U n Q h u) (h0 : 0 < n) (hn : n ≤ 10) (hset : tp_set Q) (hc : c < n) (ht : tm ≤ 100)
    (H : ∀ v u, tp_U n Q h u → (v = 0 ↔ tp_tr Q (tp_g Q h tm 0) n c = false) → post v u) : wpX_policies post u (nI c) (nI tm) := by
  obtain ⟨S, r, t, w, pl, b11, b12, b13, b14, b15, b16, b17, rfl⟩ := hu
  unfold wpX_policies
  dsimp only
  refine wq_asked hn hc ht (br_f (by decide) (wq_find (w := 0) h0 hn (by omega) hset (fun c11 c12 c13 c14 c15 c16 hR => ?_)))
  exact wq_pols (c := c) (w := 0) (by omega) (by omega) hR (fun v hv => H v _ ⟨_, _, _, _, _, _, _, _, _, _, _, _, rfl⟩ hv)
/-- the path that is found -/
def tp_path (Q : Nat → Nat → Int32) (g : Nat → Bool) (n c : Nat) : Option (List Nat) := (tp_ff Q g (tp_all Q g n) c).map (fun p => tp_P Q g n p ++ [c])
def tp_len : Option (List Nat) → Int32
  | none => -2
  | some w => nI w.length
def tp_stp : Option (List Nat) → Nat → Int32
  | none, _ => -2
  | some w, i => match w[i]? with
    | none => -2
    | some e => nI e
theorem tp_stp_n {w : List Nat} {i : Nat} (h : w[i]? = none) : tp_stp (some w) i = -2 := by
  show (match w[i]? with
    | none => (-2 : Int32)
    | some e => nI e) = -2
  rw [h]
theorem tp_stp_s {w : List Nat} {i e : Nat} (h : w[i]? = some e) : tp_stp (some w) i = nI e := by
  show (match w[i]? with
    | none => (-2 : Int32)
    | some e => nI e) = nI e
  rw [h]
theorem wq_length {post : Int32 → St1 → Prop} {c tm : Nat} (hu : tp_U n Q h u) (h0 : 0 < n) (hn : n ≤ 10) (hset : tp_set Q) (hc : c < n) (ht : tm ≤ 100)
    (H : ∀ u, tp_U n Q h u → post (tp_len (tp_path Q (tp_g Q h tm 0) n c)) u) : wpX_length post u (nI c) (nI tm) := by
  obtain ⟨S, r, t, w, pl, b11, b12, b13, b14, b15, b16, b17, rfl⟩ := hu
  obtain ⟨m, hI, hD⟩ := tp_fin Q (tp_g Q h tm 0) hn h0
  unfold wpX_length
  dsimp only
  refine wq_asked hn hc ht (br_f (by decide) (wq_find (w := 0) h0 hn (by omega) hset (fun c11 c12 c13 c14 c15 c16 hR => ?_)))
  refine wq_fpath (c := c) (w := 0) (by omega) (by omega) hI hD hR (fun e => ?_) (fun p e d17 hd17 => ?_)
  · have e' : tp_path Q (tp_g Q h tm 0) n c = none := by
      unfold tp_path
      rw [e]
      rfl
    rw [e'] at H
    exact br_t rfl (H _ ⟨_, _, _, _, _, _, _, _, _, _, _, _, rfl⟩)
  · have e' : tp_path Q (tp_g Q h tm 0) n c = some (tp_P Q (tp_g Q h tm 0) n p ++ [c]) := by
      unfold tp_path
      rw [e]
      rfl
    have e2 : tp_len (some (tp_P Q (tp_g Q h tm 0) n p ++ [c])) = nI ((tp_P Q (tp_g Q h tm 0) n p).length + 1) := by
      show nI (List.length _) = _
      rw [List.length_append]
      rfl
    rw [e', e2] at H
    exact br_f (by decide) (H _ ⟨_, _, _, _, _, _, _, _, _, _, _, _, rfl⟩)
theorem wq_step {post : Int32 → St1 → Prop} {c tm i : Nat} (hu : tp_U n Q h u) (h0 : 0 < n) (hn : n ≤ 10) (hset : tp_set Q) (hc : c < n) (ht : tm ≤ 100) (hi : i < 100)
    (H : ∀ u, tp_U n Q h u → post (tp_stp (tp_path Q (tp_g Q h tm 0) n c) i) u) : wpX_step post u (nI c) (nI tm) (nI i) := by
  obtain ⟨S, r, t, w, pl, b11, b12, b13, b14, b15, b16, b17, rfl⟩ := hu
  obtain ⟨m, hI, hD⟩ := tp_fin Q (tp_g Q h tm 0) hn h0
  unfold wpX_step
  dsimp only
  refine wq_asked hn hc ht (br_f (by decide) (wq_find (w := 0) h0 hn (by omega) hset (fun c11 c12 c13 c14 c15 c16 hR => ?_)))
  refine wq_fpath (c := c) (w := 0) (by omega) (by omega) hI hD hR (fun e => ?_) (fun p e d17 hd17 => ?_)
  · have e' : tp_path Q (tp_g Q h tm 0) n c = none := by
      unfold tp_path
      rw [e]
      rfl
    rw [e'] at H
    exact br_t rfl (H _ ⟨_, _, _, _, _, _, _, _, _, _, _, _, rfl⟩)
  · have e' : tp_path Q (tp_g Q h tm 0) n c = some (tp_P Q (tp_g Q h tm 0) n p ++ [c]) := by
      unfold tp_path
      rw [e]
      rfl
    obtain ⟨s, hs, _⟩ := tp_ff_spec e
    have hd := hD p (tp_lt hs)
    have hlen : (tp_P Q (tp_g Q h tm 0) n p ++ [c]).length = (tp_P Q (tp_g Q h tm 0) n p).length + 1 := by
      rw [List.length_append]
      rfl
    rw [e'] at H
    refine br_f (by decide) (br_f (nI_pos (by omega)) (pk_le ((tp_P Q (tp_g Q h tm 0) n p).length + 1) i (fun z => ?_) (fun z => ?_)))
    · rw [tp_stp_n (List.getElem?_eq_none (by omega))] at H
      exact H _ ⟨_, _, _, _, _, _, _, _, _, _, _, _, rfl⟩
    · have hlt : i < (tp_P Q (tp_g Q h tm 0) n p ++ [c]).length := by omega
      have hx := hd17 i _ (List.getElem?_eq_getElem hlt)
      rw [tp_stp_s (List.getElem?_eq_getElem hlt)] at H
      refine ⟨vp_in_nI (by omega) (by decide), ?_⟩
      dsimp only
      rw [nI_clamp (by omega), hx]
      exact H _ ⟨_, _, _, _, _, _, _, _, _, _, _, _, rfl⟩
theorem wq_narrow {post : Int32 → St1 → Prop} {c tm : Nat} (hu : tp_U n Q h u) (h0 : 0 < n) (hn : n ≤ 10) (hset : tp_set Q) (hc : c < n) (ht : tm ≤ 100)
    (H : ∀ v u, tp_U n Q h u → (v = -2 ∨ ∃ x, x < n ∧ x ≠ c ∧ v = nI x ∧ tp_tr Q (tp_g Q h tm (x + 1)) n c = false) → (tp_tr Q (tp_g Q h tm 0) n c = false → v = -2) → post v u) : wpX_narrow post u (nI c) (nI tm) := by
  obtain ⟨S, r, t, w, pl, b11, b12, b13, b14, b15, b16, b17, rfl⟩ := hu
  unfold wpX_narrow
  dsimp only
  refine wq_asked hn hc ht (br_f (by decide) (wq_find (w := 0) h0 hn (by omega) hset (fun c11 c12 c13 c14 c15 c16 hR => ?_)))
  refine wq_first (c := c) (w := 0) (by omega) (by omega) hR (tp_fvb hR.2.1 (fun e => ?_) (fun e => ?_))
  · exact H _ _ ⟨_, _, _, _, _, _, _, _, _, _, _, _, rfl⟩ (Or.inl rfl) (fun _ => rfl)
  · have et : tp_tr Q (tp_g Q h tm 0) n c = true := e
    refine pk_loop (fun fu i (u : St1) => wX_narrow_32 post (nI c) (nI tm) fu (nI i) u.1 u.2.1 u.2.2.1 u.2.2.2.1 u.2.2.2.2.1 u.2.2.2.2.2.1 u.2.2.2.2.2.2.1 u.2.2.2.2.2.2.2.1 u.2.2.2.2.2.2.2.2.1 u.2.2.2.2.2.2.2.2.2.1 u.2.2.2.2.2.2.2.2.2.2.1 u.2.2.2.2.2.2.2.2.2.2.2.1 u.2.2.2.2.2.2.2.2.2.2.2.2.1 u.2.2.2.2.2.2.2.2.2.2.2.2.2.1 u.2.2.2.2.2.2.2.2.2.2.2.2.2.2.1 u.2.2.2.2.2.2.2.2.2.2.2.2.2.2.2.1 u.2.2.2.2.2.2.2.2.2.2.2.2.2.2.2.2.1 u.2.2.2.2.2.2.2.2.2.2.2.2.2.2.2.2.2.1 u.2.2.2.2.2.2.2.2.2.2.2.2.2.2.2.2.2.2.1 u.2.2.2.2.2.2.2.2.2.2.2.2.2.2.2.2.2.2.2.1 u.2.2.2.2.2.2.2.2.2.2.2.2.2.2.2.2.2.2.2.2.1 u.2.2.2.2.2.2.2.2.2.2.2.2.2.2.2.2.2.2.2.2.2.1 u.2.2.2.2.2.2.2.2.2.2.2.2.2.2.2.2.2.2.2.2.2.2) (fun _ u => tp_U n Q h u) n 0 (nI n, nI ((tp_all Q (tp_gd Q h (nI tm) 0) n).length - 1), 5, nI tm, tp_pm 0, pl, Q 1, Q 2, Q 3, Q 4, Q 5, Q 6, Q 7, Q 8, h, Q 10, c11, c12, c13, c14, c15, c16, b17) (by omega) ⟨_, _, _, _, _, _, _, _, _, _, _, _, rfl⟩ ?_ ?_
    · rintro fu u ⟨S, r, t, w, pl, b11, b12, b13, b14, b15, b16, b17, rfl⟩
      refine pk_le n n (fun _ => ?_) (fun z => absurd z (by omega))
      exact H _ _ ⟨_, _, _, _, _, _, _, _, _, _, _, _, rfl⟩ (Or.inl rfl) (fun _ => rfl)
    · rintro fu i u hi ⟨S, r, t, w, pl, b11, b12, b13, b14, b15, b16, b17, rfl⟩ hw'
      refine pk_le n i (fun z => absurd z (by omega)) (fun _ => ?_)
      refine pk_eq i c (fun _ => nm_r (nI_1 i) ?_) (fun hic => ?_)
      · exact hw' (nI n, S, r, t, w, pl, Q 1, Q 2, Q 3, Q 4, Q 5, Q 6, Q 7, Q 8, h, Q 10, b11, b12, b13, b14, b15, b16, b17) ⟨_, _, _, _, _, _, _, _, _, _, _, _, rfl⟩
      · refine wq_find (w := i + 1) h0 hn (by omega) hset (fun c11 c12 c13 c14 c15 c16 hR' => ?_)
        refine wq_first (c := c) (w := i + 1) (by omega) (by omega) hR' (tp_fvb hR'.2.1 (fun e' => ?_) (fun e' => nm_r (nI_1 i) ?_))
        · refine H _ _ ⟨_, _, _, _, _, _, _, _, _, _, _, _, rfl⟩ (Or.inr ⟨i, hi, hic, rfl, e'⟩) (fun z => ?_)
          rw [et] at z
          exact absurd z (by decide)
        · exact hw' (nI n, nI ((tp_all Q (tp_gd Q h (nI tm) (i + 1)) n).length - 1), 5, nI tm, tp_pm (i + 1), pl, Q 1, Q 2, Q 3, Q 4, Q 5, Q 6, Q 7, Q 8, h, Q 10, c11, c12, c13, c14, c15, c16, b17) ⟨_, _, _, _, _, _, _, _, _, _, _, _, rfl⟩
theorem wq_hold {post : Int32 → St1 → Prop} {c : Nat} {b : Bool} (hu : tp_U n Q h u) (hn : n ≤ 10) (hc : c < n)
    (H : ∀ u, tp_U n Q (upd h c (tp_i b)) u → post (if h c = 0 then 0 else 1) u) : wpX_hold post u (nI c) (tp_i b) := by
  obtain ⟨S, r, t, w, pl, b11, b12, b13, b14, b15, b16, b17, rfl⟩ := hu
  have hcl := nI_clamp (n := c) (by omega)
  have hin : vp_in (nI c) 12 := vp_in_nI (by omega) (by decide)
  have en : vp_nar .boolean (tp_i b) = tp_i b := by
    cases b <;> rfl
  unfold wpX_hold
  dsimp only
  refine wq_cert hn hc (br_f (by decide) ⟨hin, ?_⟩)
  rw [hcl]
  refine ⟨fun e => ?_, fun e => ?_⟩
  · rw [if_pos e] at H
    unfold wX_hold_24
    rw [hcl, en]
    exact ⟨hin, nm_e (H _ ⟨_, _, _, _, _, _, _, _, _, _, _, _, rfl⟩)⟩
  · rw [if_neg e] at H
    unfold wX_hold_24
    rw [hcl, en]
    exact ⟨hin, nm_e (H _ ⟨_, _, _, _, _, _, _, _, _, _, _, _, rfl⟩)⟩
end
end
section
/-! ===== the script's cells, the constructor, the certificates that are made ===== -/
def tp_cell (L : Nat) (xs : Nat → Int32) (k : Nat) : Int32 := if k < L then xs k else nI (23 * k + 5)
theorem wq_cell {post : Int32 → Prop} {L : Nat} {xs : Nat → Int32} {x : Int32} (k : Nat) (hL : L ≤ 260) (hk : k < 100) (hx : x = nI k) (H : post (tp_cell L xs k)) : wpL_cell post L xs () x := by
  unfold wpL_cell
  unfold tp_cell at H
  rw [hx]
  refine pk_le L k (fun z => ?_) (fun z => ⟨vp_in_nI z (by omega), ?_⟩)
  · rw [if_neg (by omega)] at H
    rw [show (23 : Int32) = nI 23 from rfl, show (5 : Int32) = nI 5 from rfl, pk_mul, nI_add]
    exact H
  · rw [if_pos z] at H
    rw [nI_clamp (by omega)]
    exact H
def tp_md (v : Int32) (N : Nat) : Nat := v.toNatClampNeg % N
theorem tp_md_rem {v : Int32} {N : Nat} (hv : ∃ j, j < 256 ∧ v = nI j) (h0 : 0 < N) (hN : N ≤ 10) : v - v / nI N * nI N = nI (tp_md v N) := by
  obtain ⟨j, hj, rfl⟩ := hv
  unfold tp_md
  rw [nI_clamp (by omega)]
  exact pk_rem (by omega) h0 (by omega)
theorem tp_md_lt (v : Int32) {N : Nat} (h0 : 0 < N) : tp_md v N < N := Nat.mod_lt _ h0
theorem tp_b8 (v : Int32) : ∃ j, j < 256 ∧ v &&& 255 = nI j := pk_andE v 8 (by decide)
theorem tp_b2 (v : Int32) : ∃ j, j < 256 ∧ v &&& 3 = nI j := by
  obtain ⟨j, hj, e⟩ := pk_andE v (m := 3) 2 (by decide)
  exact ⟨j, Nat.lt_of_lt_of_le hj (by decide), e⟩
/-- how many names, keys and certificates a script asks for -/
def tp_N (x : Int32) : Nat := 2 + (x &&& 3).toNatClampNeg
def tp_K (x : Int32) : Nat := 1 + ((x >>> ((2 : Int32) &&& 31)) &&& 1).toNatClampNeg
def tp_M (x : Int32) : Nat := 5 + ((x >>> ((3 : Int32) &&& 31)) &&& 7).toNatClampNeg
theorem tp_Ne (x : Int32) : 2 + (x &&& 3) = nI (tp_N x) ∧ 2 ≤ tp_N x ∧ tp_N x ≤ 5 := by
  obtain ⟨j, hj, e⟩ := pk_andE x (m := 3) 2 (by decide)
  have hj : j < 4 := hj
  unfold tp_N
  rw [e, nI_clamp (by omega)]
  exact ⟨nI_add 2 j, by omega, by omega⟩
theorem tp_Ke (x : Int32) : 1 + ((x >>> ((2 : Int32) &&& 31)) &&& 1) = nI (tp_K x) ∧ 1 ≤ tp_K x ∧ tp_K x ≤ 2 := by
  obtain ⟨j, hj, e⟩ := pk_andE (x >>> ((2 : Int32) &&& 31)) (m := 1) 1 (by decide)
  have hj : j < 2 := hj
  unfold tp_K
  rw [e, nI_clamp (by omega)]
  exact ⟨nI_add 1 j, by omega, by omega⟩
theorem tp_Me (x : Int32) : 5 + ((x >>> ((3 : Int32) &&& 31)) &&& 7) = nI (tp_M x) ∧ 5 ≤ tp_M x ∧ tp_M x ≤ 12 := by
  obtain ⟨j, hj, e⟩ := pk_andE (x >>> ((3 : Int32) &&& 31)) (m := 7) 3 (by decide)
  have hj : j < 8 := hj
  unfold tp_M
  rw [e, nI_clamp (by omega)]
  exact ⟨nI_add 5 j, by omega, by omega⟩
def tp_in (x y : Int32) : Nat := tp_md (y &&& 255) (tp_N x)
def tp_sn (x y : Int32) : Nat := tp_md ((y >>> ((8 : Int32) &&& 31)) &&& 255) (tp_N x)
def tp_ik (x y : Int32) : Nat := tp_md ((y >>> ((16 : Int32) &&& 31)) &&& 3) (tp_K x)
def tp_sk (x y : Int32) : Nat := tp_md ((y >>> ((18 : Int32) &&& 31)) &&& 3) (tp_K x)
/-- the two anchors -/
def tp_e0 (x : Int32) : Nat := 10 * tp_sn x x + tp_ik x x
def tp_e1 (x : Int32) : Nat := 10 * tp_md ((x >>> ((18 : Int32) &&& 31)) &&& 3) (tp_N x) + tp_md ((x >>> ((20 : Int32) &&& 31)) &&& 3) (tp_K x)
theorem tp_rin (x y : Int32) : (y &&& 255) - (y &&& 255) / nI (tp_N x) * nI (tp_N x) = nI (tp_in x y) := tp_md_rem (tp_b8 _) (by have := tp_Ne x; omega) (by have := tp_Ne x; omega)
theorem tp_rsn (x y : Int32) : ((y >>> ((8 : Int32) &&& 31)) &&& 255) - ((y >>> ((8 : Int32) &&& 31)) &&& 255) / nI (tp_N x) * nI (tp_N x) = nI (tp_sn x y) := tp_md_rem (tp_b8 _) (by have := tp_Ne x; omega) (by have := tp_Ne x; omega)
theorem tp_rik (x y : Int32) : ((y >>> ((16 : Int32) &&& 31)) &&& 3) - ((y >>> ((16 : Int32) &&& 31)) &&& 3) / nI (tp_K x) * nI (tp_K x) = nI (tp_ik x y) := tp_md_rem (tp_b2 _) (by have := tp_Ke x; omega) (by have := tp_Ke x; omega)
theorem tp_rsk (x y : Int32) : ((y >>> ((18 : Int32) &&& 31)) &&& 3) - ((y >>> ((18 : Int32) &&& 31)) &&& 3) / nI (tp_K x) * nI (tp_K x) = nI (tp_sk x y) := tp_md_rem (tp_b2 _) (by have := tp_Ke x; omega) (by have := tp_Ke x; omega)
theorem tp_r18 (x : Int32) : ((x >>> ((18 : Int32) &&& 31)) &&& 3) - ((x >>> ((18 : Int32) &&& 31)) &&& 3) / nI (tp_N x) * nI (tp_N x) = nI (tp_md ((x >>> ((18 : Int32) &&& 31)) &&& 3) (tp_N x)) := tp_md_rem (tp_b2 _) (by have := tp_Ne x; omega) (by have := tp_Ne x; omega)
theorem tp_r20 (x : Int32) : ((x >>> ((20 : Int32) &&& 31)) &&& 3) - ((x >>> ((20 : Int32) &&& 31)) &&& 3) / nI (tp_K x) * nI (tp_K x) = nI (tp_md ((x >>> ((20 : Int32) &&& 31)) &&& 3) (tp_K x)) := tp_md_rem (tp_b2 _) (by have := tp_Ke x; omega) (by have := tp_Ke x; omega)
theorem tp_lin (x y : Int32) : tp_in x y < 5 := by
  have h := tp_Ne x
  have := tp_md_lt (y &&& 255) (N := tp_N x) (by omega)
  unfold tp_in
  omega
theorem tp_lsn (x y : Int32) : tp_sn x y < 5 := by
  have h := tp_Ne x
  have := tp_md_lt ((y >>> ((8 : Int32) &&& 31)) &&& 255) (N := tp_N x) (by omega)
  unfold tp_sn
  omega
theorem tp_lik (x y : Int32) : tp_ik x y < 2 := by
  have h := tp_Ke x
  have := tp_md_lt ((y >>> ((16 : Int32) &&& 31)) &&& 3) (N := tp_K x) (by omega)
  unfold tp_ik
  omega
theorem tp_lsk (x y : Int32) : tp_sk x y < 2 := by
  have h := tp_Ke x
  have := tp_md_lt ((y >>> ((18 : Int32) &&& 31)) &&& 3) (N := tp_K x) (by omega)
  unfold tp_sk
  omega
theorem tp_le1 (x : Int32) : tp_e1 x < 80 := by
  have h := tp_Ne x
  have h' := tp_Ke x
  have h1 := tp_md_lt ((x >>> ((18 : Int32) &&& 31)) &&& 3) (N := tp_N x) (by omega)
  have h2 := tp_md_lt ((x >>> ((20 : Int32) &&& 31)) &&& 3) (N := tp_K x) (by omega)
  unfold tp_e1
  omega
/-- the certificates made so far -/
def tp_C (L : Nat) (xs : Nat → Int32) (i : Nat) (a1 a2 a3 a4 a7 a9 : Nat → Int32) : Prop :=
  (∀ c, c < i → a1 c = nI (tp_in (tp_cell L xs 0) (tp_cell L xs (1 + c))) ∧ a2 c = nI (tp_ik (tp_cell L xs 0) (tp_cell L xs (1 + c))) ∧ a3 c = nI (tp_sn (tp_cell L xs 0) (tp_cell L xs (1 + c))) ∧ a4 c = nI (tp_sk (tp_cell L xs 0) (tp_cell L xs (1 + c)))) ∧
  (∀ k, k < 60 → ∃ v, v ≤ 255 ∧ a7 k = nI v) ∧ (∀ c, c < 12 → a9 c = 0)
def tp_V (L : Nat) (xs : Nat → Int32) (A : Nat → Int32) (i : Nat) (u : St1) : Prop :=
  ∃ (S r t w pl : Int32) (a1 a2 a3 a4 a5 a6 a7 a8 a9 a10 a11 a12 a13 a14 a15 a16 a17 : Nat → Int32), u = (nI i, S, r, t, w, pl, a1, a2, a3, a4, a5, a6, a7, a8, a9, a10, a11, a12, a13, a14, a15, a16, a17) ∧ tp_C L xs i a1 a2 a3 a4 a7 a9 ∧ a10 = A
theorem tp_a7u {a7 : Nat → Int32} (h7 : ∀ k, k < 60 → ∃ v, v ≤ 255 ∧ a7 k = nI v) (j : Nat) {x : Int32} {v : Nat} (hv : v ≤ 255) (hx : x = nI v) : ∀ k, k < 60 → ∃ v, v ≤ 255 ∧ upd a7 j x k = nI v := by
  intro k hk
  by_cases e : k = j
  · subst e
    rw [pk_us]
    exact ⟨v, hv, hx⟩
  · rw [pk_un e]
    exact h7 k hk
theorem wq_anytime {post : Int32 → Prop} {x : Int32} (H0 : post 0) (H1 : post 1) : wpX_isTime post () x := by
  unfold wpX_isTime
  exact ⟨fun _ => H0, fun _ => ⟨fun _ => H0, fun _ => H1⟩⟩
theorem wq_greatest {post : Int32 → Prop} {x : Int32} (H : ∀ v, v ≤ 255 → post (nI v)) : wpX_greatest post () x := by
  unfold wpX_greatest
  exact ⟨fun _ => H 1 (by omega), fun _ => ⟨fun _ => H 4 (by omega), fun _ => ⟨fun _ => H 15 (by omega), fun _ => H 255 (by omega)⟩⟩⟩
theorem wq_certA {post : Int32 → Prop} {S r t w pl : Int32} {a1 a2 a3 a4 a5 a6 a7 a8 a9 a10 a11 a12 a13 a14 a15 a16 a17 : Nat → Int32} {k i : Nat} (hk : k ≤ 12) (hi : i < k) (H : post 1) : wpX_isCertificate post (nI k, S, r, t, w, pl, a1, a2, a3, a4, a5, a6, a7, a8, a9, a10, a11, a12, a13, a14, a15, a16, a17) (nI i) := by
  unfold wpX_isCertificate
  exact br_f (nI_pos (by omega)) (pk_le k i (fun z => absurd z (by omega)) (fun _ => H))
section
variable {L : Nat} {xs A : Nat → Int32} {post : Int32 → St1 → Prop} {u : St1} {k i : Nat}
theorem wm_set {p1 p2 : Int32} (hu : tp_V L xs A k u) (hk : k ≤ 12) (hi : i < k) (H : ∀ r u, tp_V L xs A k u → post r u) : wpX_set post u (nI i) p1 p2 := by
  have hu' := hu
  obtain ⟨S, r, t, w, pl, a1, a2, a3, a4, a5, a6, a7, a8, a9, a10, a11, a12, a13, a14, a15, a16, a17, rfl, hC, hA⟩ := hu
  unfold wpX_set
  dsimp only
  refine wq_certA hk hi (br_f (by decide) ⟨fun _ => H _ _ hu', fun h1 => ⟨fun _ => H _ _ hu', fun h2 => ⟨fun _ => H _ _ hu', fun h3 => wq_greatest (fun v hv => ⟨fun h4 => ?_, fun _ => H _ _ hu'⟩)⟩⟩⟩)
  obtain ⟨j, hj, e1⟩ := nI_of2 (x := p1) (M := 4) (n := 4) (by decide) h1 (Int32.not_lt.mp h2)
  obtain ⟨b, hb, e2⟩ := nI_of2 (x := p2) (M := nI v) (n := v) (nI_toInt (by omega)) h3 h4
  obtain ⟨hin, hcl⟩ := wq_i5 (x := nI i) j (by omega) (by omega) rfl e1
  refine ⟨hin, nm_e ⟨hin, nm_e (H _ _ ⟨S, r, t, w, pl, a1, a2, a3, a4, a5, a6, _, a8, a9, a10, a11, a12, a13, a14, a15, a16, a17, rfl, ⟨hC.1, ?_, hC.2.2⟩, hA⟩)⟩⟩
  exact tp_a7u hC.2.1 _ (by omega) e2
theorem wm_times {p1 p2 : Int32} (hu : tp_V L xs A k u) (hk : k ≤ 12) (hi : i < k) (H : ∀ r u, tp_V L xs A k u → post r u) : wpX_times post u (nI i) p1 p2 := by
  have hu' := hu
  obtain ⟨S, r, t, w, pl, a1, a2, a3, a4, a5, a6, a7, a8, a9, a10, a11, a12, a13, a14, a15, a16, a17, rfl, hC, hA⟩ := hu
  have hin : vp_in (nI i) 12 := vp_in_nI (by omega) (by decide)
  unfold wpX_times
  dsimp only
  refine wq_certA hk hi (br_f (by decide) (wq_anytime (br_t rfl (H _ _ hu')) (br_f (by decide) (wq_anytime (br_t rfl (H _ _ hu')) (br_f (by decide) ⟨fun _ => ?_, fun _ => H _ _ hu'⟩)))))
  exact ⟨hin, nm_e ⟨hin, nm_e (H _ _ ⟨S, r, t, w, pl, a1, a2, a3, a4, _, _, a7, a8, a9, a10, a11, a12, a13, a14, a15, a16, a17, rfl, hC, hA⟩)⟩⟩
theorem wm_revoke {p1 : Int32} (hu : tp_V L xs A k u) (hk : k ≤ 12) (hi : i < k) (H : ∀ r u, tp_V L xs A k u → post r u) : wpX_revoke post u (nI i) p1 := by
  have hu' := hu
  obtain ⟨S, r, t, w, pl, a1, a2, a3, a4, a5, a6, a7, a8, a9, a10, a11, a12, a13, a14, a15, a16, a17, rfl, hC, hA⟩ := hu
  have hin : vp_in (nI i) 12 := vp_in_nI (by omega) (by decide)
  unfold wpX_revoke
  dsimp only
  refine wq_certA hk hi (br_f (by decide) (wq_anytime (br_t rfl (H _ _ hu')) (br_f (by decide) ⟨hin, fun _ => ?_, fun _ => ?_⟩)))
  · exact ⟨hin, nm_e (H _ _ ⟨S, r, t, w, pl, a1, a2, a3, a4, a5, a6, a7, _, a9, a10, a11, a12, a13, a14, a15, a16, a17, rfl, hC, hA⟩)⟩
  · exact ⟨hin, nm_e (H _ _ ⟨S, r, t, w, pl, a1, a2, a3, a4, a5, a6, a7, _, a9, a10, a11, a12, a13, a14, a15, a16, a17, rfl, hC, hA⟩)⟩
theorem tp_upC {f : Nat → Int32} {F : Nat → Int32} {i : Nat} (hf : ∀ c, c < i → f c = F c) {x : Int32} (hx : x = F i) : ∀ c, c < i + 1 → upd f i x c = F c := by
  intro c hc
  by_cases e : c = i
  · subst e
    rw [pk_us]
    exact hx
  · rw [pk_un e]
    exact hf c (by omega)
theorem wm_make {q1 q2 : Int32} (hu : tp_V L xs A i u) (hi : i < 12)
    (e1 : q1 = nI (8 * tp_in (tp_cell L xs 0) (tp_cell L xs (1 + i)) + tp_sn (tp_cell L xs 0) (tp_cell L xs (1 + i)))) (e2 : q2 = nI (10 * tp_ik (tp_cell L xs 0) (tp_cell L xs (1 + i)) + tp_sk (tp_cell L xs 0) (tp_cell L xs (1 + i))))
    (H : ∀ r u, tp_V L xs A (i + 1) u → post r u) : wpX_make post u q1 q2 := by
  obtain ⟨S, r, t, w, pl, a1, a2, a3, a4, a5, a6, a7, a8, a9, a10, a11, a12, a13, a14, a15, a16, a17, rfl, hC, hA⟩ := hu
  have b1 := tp_lin (tp_cell L xs 0) (tp_cell L xs (1 + i))
  have b2 := tp_lsn (tp_cell L xs 0) (tp_cell L xs (1 + i))
  have b3 := tp_lik (tp_cell L xs 0) (tp_cell L xs (1 + i))
  have b4 := tp_lsk (tp_cell L xs 0) (tp_cell L xs (1 + i))
  have hin : vp_in (nI i) 12 := vp_in_nI hi (by decide)
  have hcl := nI_clamp (n := i) (by omega)
  obtain ⟨hin0, hcl0⟩ := wq_i50 (x := nI i) hi rfl
  obtain ⟨hin1, hcl1⟩ := wq_i5 (x := nI i) 1 hi (by decide) rfl (rfl : (1 : Int32) = nI 1)
  obtain ⟨hin2, hcl2⟩ := wq_i5 (x := nI i) 2 hi (by decide) rfl (rfl : (2 : Int32) = nI 2)
  obtain ⟨hin4, hcl4⟩ := wq_i5 (x := nI i) 4 hi (by decide) rfl (rfl : (4 : Int32) = nI 4)
  have h8 : ¬ (8 : Int32) = 0 := by decide
  have h10 : ¬ (10 : Int32) = 0 := by decide
  unfold wpX_make
  dsimp only
  rw [hcl, hcl0, hcl1, hcl2, hcl4]
  refine br_f (by rw [e1]; exact nI_pos (by omega)) (br_f (by rw [e1]; exact nI_ge (b := 64) (by omega) (by decide)) (br_f (by rw [e2]; exact nI_pos (by omega)) (br_t (by rw [e2]; exact nI_lt (b := 100) (by omega) (by decide)) (br_t (nI_lt (b := 12) hi (by decide)) (nm_r (nI_1 i) ?_)))))
  refine ⟨h8, hin, nm_e ⟨h8, hin, nm_e ⟨h10, hin, nm_e ⟨h10, hin, nm_e ⟨hin, nm_e ⟨hin0, nm_e ⟨hin1, nm_e ⟨hin2, nm_e ⟨hin4, nm_e ⟨hin, nm_e (H _ _ ⟨S, r, t, w, pl, _, _, _, _, a5, _, _, _, a9, a10, a11, a12, a13, a14, a15, a16, a17, rfl, ⟨fun c hc => ⟨?_, ?_, ?_, ?_⟩, ?_, hC.2.2⟩, hA⟩)⟩⟩⟩⟩⟩⟩⟩⟩⟩⟩
  · refine tp_upC (F := fun c => nI (tp_in (tp_cell L xs 0) (tp_cell L xs (1 + c)))) (fun c hc => (hC.1 c hc).1) ?_ c hc
    rw [e1, show (8 : Int32) = nI 8 from rfl, pk_div (by omega) (by omega) (by omega)]
    exact congrArg nI (by omega)
  · refine tp_upC (F := fun c => nI (tp_ik (tp_cell L xs 0) (tp_cell L xs (1 + c)))) (fun c hc => (hC.1 c hc).2.1) ?_ c hc
    rw [e2, show (10 : Int32) = nI 10 from rfl, pk_div (by omega) (by omega) (by omega)]
    exact congrArg nI (by omega)
  · refine tp_upC (F := fun c => nI (tp_sn (tp_cell L xs 0) (tp_cell L xs (1 + c)))) (fun c hc => (hC.1 c hc).2.2.1) ?_ c hc
    rw [e1, show (8 : Int32) = nI 8 from rfl, pk_rem (by omega) (by omega) (by omega)]
    exact congrArg nI (by omega)
  · refine tp_upC (F := fun c => nI (tp_sk (tp_cell L xs 0) (tp_cell L xs (1 + c)))) (fun c hc => (hC.1 c hc).2.2.2) ?_ c hc
    rw [e2, show (10 : Int32) = nI 10 from rfl, pk_rem (by omega) (by omega) (by omega)]
    exact congrArg nI (by omega)
  · exact tp_a7u (tp_a7u (tp_a7u (tp_a7u hC.2.1 _ (v := 1) (by omega) rfl) _ (v := 4) (by omega) rfl) _ (v := 255) (by omega) rfl) _ (v := 15) (by omega) rfl
end
end
section
/-! ===== the constructor, and all that make does ===== -/
theorem wm_init {post : St1 → Prop} (H : ∀ a10 : Nat → Int32, (∀ j, j < 3 → a10 j = -1) → post (0, 0, 0, 0, 0, 0, (fun _ => 0), (fun _ => 0), (fun _ => 0), (fun _ => 0), (fun _ => 0), (fun _ => 0), (fun _ => 0), (fun _ => 0), (fun _ => 0), a10, (fun _ => 0), (fun _ => 0), (fun _ => 0), (fun _ => 0), (fun _ => 0), (fun _ => 0), (fun _ => 0))) : wpX_init post 17 5292 (0, 0, 0, 0, 0, 0) := by
  unfold wpX_init
  dsimp only
  refine ⟨by decide, by decide, by decide, by decide, by decide, by decide, by decide, by decide, by decide, by decide, by decide, by decide, by decide, by decide, by decide, by decide, by decide, by decide, by decide, by decide, by decide, by decide, by decide, by decide, by decide, by decide, by decide, by decide, by decide, by decide, by decide, by decide, by decide, by decide, ?_⟩
  refine pk_loop (fun fu i (s : Nat → Int32) => wX_init_146 post 17 5292 17 5292 0 0 0 0 0 0 fu (nI i) (fun _ => 0) (fun _ => 0) (fun _ => 0) (fun _ => 0) (fun _ => 0) (fun _ => 0) (fun _ => 0) (fun _ => 0) (fun _ => 0) s (fun _ => 0) (fun _ => 0) (fun _ => 0) (fun _ => 0) (fun _ => 0) (fun _ => 0) (fun _ => 0)) (fun i s => ∀ j, j < i → s j = -1) 3 0 (fun _ => 0) (by omega) (fun j hj => absurd hj (by omega)) ?_ ?_
  · intro fu s hI
    exact pk_le 3 3 (fun _ => H s hI) (fun z => absurd z (by omega))
  · intro fu i s hi hI hw
    refine pk_le 3 i (fun z => absurd z (by omega)) (fun _ => ⟨vp_in_nI hi (by decide), nm_r (by rw [nI_clamp (by omega)]) (nm_r (nI_1 i) (hw _ ?_))⟩)
    exact tp_upC (F := fun _ => -1) hI rfl
section
variable {L : Nat} {xs A : Nat → Int32} {u : St1} {k : Nat}
theorem wm_anchor {post : Int32 → St1 → Prop} {a e : Nat} (hu : tp_V L xs A k u) (ha : a < 3) (he : e < 80) (H : ∀ r u, tp_V L xs (upd A a (nI e)) k u → post r u) : wpX_anchor post u (nI a) (nI e) := by
  obtain ⟨S, r, t, w, pl, a1, a2, a3, a4, a5, a6, a7, a8, a9, a10, a11, a12, a13, a14, a15, a16, a17, rfl, hC, hA⟩ := hu
  have hin : vp_in (nI a) 3 := vp_in_nI ha (by decide)
  have hcl := nI_clamp (n := a) (by omega)
  subst hA
  unfold wpX_anchor
  dsimp only
  unfold wpX_isAnchor
  refine br_f (nI_pos (by omega)) (br_f (nI_ge (b := 3) ha (by decide)) (br_f (by decide) (br_f (nI_pos (by omega)) (br_t (nI_lt (b := 80) he (by decide)) ⟨hin, fun _ => ⟨hin, nm_r (by rw [hcl]) ?_⟩, fun _ => ⟨hin, nm_r (by rw [hcl]) ?_⟩⟩))))
  · exact H _ _ ⟨S, r, t, w, pl, a1, a2, a3, a4, a5, a6, a7, a8, a9, _, a11, a12, a13, a14, a15, a16, a17, rfl, hC, rfl⟩
  · exact H _ _ ⟨S, r, t, w, pl, a1, a2, a3, a4, a5, a6, a7, a8, a9, _, a11, a12, a13, a14, a15, a16, a17, rfl, hC, rfl⟩
theorem wm_282 {post : St1 → Prop} {x S r t w pl : Int32} {a1 a2 a3 a4 a5 a6 a7 a8 a9 a10 a11 a12 a13 a14 a15 a16 a17 : Nat → Int32} {n : Nat} (hx : x = tp_cell L xs 0) (hu : tp_V L xs A n (nI n, S, r, t, w, pl, a1, a2, a3, a4, a5, a6, a7, a8, a9, a10, a11, a12, a13, a14, a15, a16, a17))
    (H : ∀ u A', tp_V L xs A' n u → A' 0 = nI (tp_e0 x) → A' 1 = (if x &&& 16777216 = 0 then A 1 else nI (tp_e1 x)) → A' 2 = A 2 → post u) :
    wL_make_282 post L xs x (nI (tp_N x)) (nI (tp_K x)) (nI n) S r t w pl a1 a2 a3 a4 a5 a6 a7 a8 a9 a10 a11 a12 a13 a14 a15 a16 a17 := by
  have hN := tp_Ne x
  have hK := tp_Ke x
  have hN0 : ¬ nI (tp_N x) = 0 := nI_ne0 (by omega) (by omega)
  have hK0 : ¬ nI (tp_K x) = 0 := nI_ne0 (by omega) (by omega)
  have l1 := tp_lsn x x
  have l2 := tp_lik x x
  have l3 := tp_le1 x
  have e0 : (10 * (((x >>> ((8 : Int32) &&& 31)) &&& 255) - ((x >>> ((8 : Int32) &&& 31)) &&& 255) / nI (tp_N x) * nI (tp_N x))) + (((x >>> ((16 : Int32) &&& 31)) &&& 3) - ((x >>> ((16 : Int32) &&& 31)) &&& 3) / nI (tp_K x) * nI (tp_K x)) = nI (tp_e0 x) := by
    rw [tp_rsn, tp_rik, show (10 : Int32) = nI 10 from rfl, pk_mul, nI_add]
    rfl
  have e1 : (10 * (((x >>> ((18 : Int32) &&& 31)) &&& 3) - ((x >>> ((18 : Int32) &&& 31)) &&& 3) / nI (tp_N x) * nI (tp_N x))) + (((x >>> ((20 : Int32) &&& 31)) &&& 3) - ((x >>> ((20 : Int32) &&& 31)) &&& 3) / nI (tp_K x) * nI (tp_K x)) = nI (tp_e1 x) := by
    rw [tp_r18, tp_r20, show (10 : Int32) = nI 10 from rfl, pk_mul, nI_add]
    rfl
  unfold wL_make_282
  rw [e0, e1]
  refine ⟨hN0, hK0, wm_anchor (a := 0) hu (by omega) (by unfold tp_e0; omega) (fun r' u' hu' => ?_)⟩
  have hu'' := hu'
  obtain ⟨S, r, t, w, pl, a1, a2, a3, a4, a5, a6, a7, a8, a9, a10, a11, a12, a13, a14, a15, a16, a17, rfl, hC, hA⟩ := hu'
  refine ⟨fun e => ?_, fun e => ⟨hN0, hK0, wm_anchor (a := 1) hu'' (by omega) l3 (fun r2 u2 hu2 => ?_)⟩⟩
  · refine H _ _ hu'' pk_us ?_ (pk_un (by decide))
    rw [if_pos e]
    exact pk_un (by decide)
  · have hu2' := hu2
    obtain ⟨S, r, t, w, pl, a1, a2, a3, a4, a5, a6, a7, a8, a9, a10, a11, a12, a13, a14, a15, a16, a17, rfl, hC, hA⟩ := hu2
    refine H _ _ hu2' ?_ ?_ ?_
    · rw [pk_un (by decide), pk_us]
    · rw [if_neg e]
      exact pk_us
    · rw [pk_un (by decide), pk_un (by decide)]
theorem wm_loop {post : St1 → Prop} {x : Int32} (hL : L ≤ 260) (hx : x = tp_cell L xs 0) (hu : tp_V L xs A 0 u)
    (H : ∀ u A', tp_V L xs A' (min (tp_M x) 10) u → A' 0 = nI (tp_e0 x) → A' 1 = (if x &&& 16777216 = 0 then A 1 else nI (tp_e1 x)) → A' 2 = A 2 → post u) :
    ∃ fu, wL_make_34 post L xs x (nI (tp_N x)) (nI (tp_K x)) (nI (tp_M x)) fu 0 u.1 u.2.1 u.2.2.1 u.2.2.2.1 u.2.2.2.2.1 u.2.2.2.2.2.1 u.2.2.2.2.2.2.1 u.2.2.2.2.2.2.2.1 u.2.2.2.2.2.2.2.2.1 u.2.2.2.2.2.2.2.2.2.1 u.2.2.2.2.2.2.2.2.2.2.1 u.2.2.2.2.2.2.2.2.2.2.2.1 u.2.2.2.2.2.2.2.2.2.2.2.2.1 u.2.2.2.2.2.2.2.2.2.2.2.2.2.1 u.2.2.2.2.2.2.2.2.2.2.2.2.2.2.1 u.2.2.2.2.2.2.2.2.2.2.2.2.2.2.2.1 u.2.2.2.2.2.2.2.2.2.2.2.2.2.2.2.2.1 u.2.2.2.2.2.2.2.2.2.2.2.2.2.2.2.2.2.1 u.2.2.2.2.2.2.2.2.2.2.2.2.2.2.2.2.2.2.1 u.2.2.2.2.2.2.2.2.2.2.2.2.2.2.2.2.2.2.2.1 u.2.2.2.2.2.2.2.2.2.2.2.2.2.2.2.2.2.2.2.2.1 u.2.2.2.2.2.2.2.2.2.2.2.2.2.2.2.2.2.2.2.2.2.1 u.2.2.2.2.2.2.2.2.2.2.2.2.2.2.2.2.2.2.2.2.2.2 := by
  have hN := tp_Ne x
  have hK := tp_Ke x
  have hM := tp_Me x
  have hN0 : ¬ nI (tp_N x) = 0 := nI_ne0 (by omega) (by omega)
  have hK0 : ¬ nI (tp_K x) = 0 := nI_ne0 (by omega) (by omega)
  refine pk_loop (fun fu i (u : St1) => wL_make_34 post L xs x (nI (tp_N x)) (nI (tp_K x)) (nI (tp_M x)) fu (nI i) u.1 u.2.1 u.2.2.1 u.2.2.2.1 u.2.2.2.2.1 u.2.2.2.2.2.1 u.2.2.2.2.2.2.1 u.2.2.2.2.2.2.2.1 u.2.2.2.2.2.2.2.2.1 u.2.2.2.2.2.2.2.2.2.1 u.2.2.2.2.2.2.2.2.2.2.1 u.2.2.2.2.2.2.2.2.2.2.2.1 u.2.2.2.2.2.2.2.2.2.2.2.2.1 u.2.2.2.2.2.2.2.2.2.2.2.2.2.1 u.2.2.2.2.2.2.2.2.2.2.2.2.2.2.1 u.2.2.2.2.2.2.2.2.2.2.2.2.2.2.2.1 u.2.2.2.2.2.2.2.2.2.2.2.2.2.2.2.2.1 u.2.2.2.2.2.2.2.2.2.2.2.2.2.2.2.2.2.1 u.2.2.2.2.2.2.2.2.2.2.2.2.2.2.2.2.2.2.1 u.2.2.2.2.2.2.2.2.2.2.2.2.2.2.2.2.2.2.2.1 u.2.2.2.2.2.2.2.2.2.2.2.2.2.2.2.2.2.2.2.2.1 u.2.2.2.2.2.2.2.2.2.2.2.2.2.2.2.2.2.2.2.2.2.1 u.2.2.2.2.2.2.2.2.2.2.2.2.2.2.2.2.2.2.2.2.2.2) (fun i u => tp_V L xs A i u) (min (tp_M x) 10) 0 u (by omega) hu ?_ ?_
  · intro fu u hI
    have hI' := hI
    obtain ⟨S, r, t, w, pl, a1, a2, a3, a4, a5, a6, a7, a8, a9, a10, a11, a12, a13, a14, a15, a16, a17, rfl, hC, hA⟩ := hI
    exact pk_le (tp_M x) (min (tp_M x) 10) (fun _ => wm_282 hx hI' H) (fun z => pk_le 10 (min (tp_M x) 10) (fun _ => wm_282 hx hI' H) (fun z' => absurd z' (by omega)))
  · intro fu i u hi hI hw
    have hI' := hI
    obtain ⟨S, r, t, w, pl, a1, a2, a3, a4, a5, a6, a7, a8, a9, a10, a11, a12, a13, a14, a15, a16, a17, rfl, hC, hA⟩ := hI
    refine pk_le (tp_M x) i (fun z => absurd z (by omega)) (fun _ => pk_le 10 i (fun z => absurd z (by omega)) (fun _ => ?_))
    refine wq_cell (1 + i) hL (by omega) (nI_add 1 i) ⟨hN0, hN0, hK0, hK0, ?_⟩
    refine wm_make (i := i) hI' (by omega) ?_ ?_ (fun r' u' hu' => ?_)
    · rw [tp_rin, tp_rsn, show (8 : Int32) = nI 8 from rfl, pk_mul, nI_add, hx]
    · rw [tp_rik, tp_rsk, show (10 : Int32) = nI 10 from rfl, pk_mul, nI_add, hx]
    · have leaf : ∀ u, tp_V L xs A (i + 1) u → ∀ y : Int32, y = nI i + 1 → wL_make_34 post L xs x (nI (tp_N x)) (nI (tp_K x)) (nI (tp_M x)) fu y u.1 u.2.1 u.2.2.1 u.2.2.2.1 u.2.2.2.2.1 u.2.2.2.2.2.1 u.2.2.2.2.2.2.1 u.2.2.2.2.2.2.2.1 u.2.2.2.2.2.2.2.2.1 u.2.2.2.2.2.2.2.2.2.1 u.2.2.2.2.2.2.2.2.2.2.1 u.2.2.2.2.2.2.2.2.2.2.2.1 u.2.2.2.2.2.2.2.2.2.2.2.2.1 u.2.2.2.2.2.2.2.2.2.2.2.2.2.1 u.2.2.2.2.2.2.2.2.2.2.2.2.2.2.1 u.2.2.2.2.2.2.2.2.2.2.2.2.2.2.2.1 u.2.2.2.2.2.2.2.2.2.2.2.2.2.2.2.2.1 u.2.2.2.2.2.2.2.2.2.2.2.2.2.2.2.2.2.1 u.2.2.2.2.2.2.2.2.2.2.2.2.2.2.2.2.2.2.1 u.2.2.2.2.2.2.2.2.2.2.2.2.2.2.2.2.2.2.2.1 u.2.2.2.2.2.2.2.2.2.2.2.2.2.2.2.2.2.2.2.2.1 u.2.2.2.2.2.2.2.2.2.2.2.2.2.2.2.2.2.2.2.2.2.1 u.2.2.2.2.2.2.2.2.2.2.2.2.2.2.2.2.2.2.2.2.2.2 := fun u hu => nm_r (nI_1 i) (hw u hu)
      have hu2 := hu'
      obtain ⟨S, r, t, w, pl, a1, a2, a3, a4, a5, a6, a7, a8, a9, a10, a11, a12, a13, a14, a15, a16, a17, rfl, hC, hA⟩ := hu'
      refine wq_cell (12 + i) hL (by omega) (nI_add 12 i) ⟨fun _ => ?_, fun _ => ⟨fun _ => ?_, fun _ => ⟨fun _ => ?_, fun _ => ⟨fun _ => ?_, fun _ => ?_⟩⟩⟩⟩
      · refine wm_set (k := i + 1) hu2 (by omega) (by omega) (fun r3 u3 hu3 => ?_)
        have hu4 := hu3
        obtain ⟨S, r, t, w, pl, a1, a2, a3, a4, a5, a6, a7, a8, a9, a10, a11, a12, a13, a14, a15, a16, a17, rfl, hC, hA⟩ := hu3
        exact leaf _ hu4
      · refine wm_set (k := i + 1) hu2 (by omega) (by omega) (fun r3 u3 hu3 => ?_)
        have hu4 := hu3
        obtain ⟨S, r, t, w, pl, a1, a2, a3, a4, a5, a6, a7, a8, a9, a10, a11, a12, a13, a14, a15, a16, a17, rfl, hC, hA⟩ := hu3
        refine wm_times (k := i + 1) hu4 (by omega) (by omega) (fun r3 u3 hu3 => ?_)
        have hu5 := hu3
        obtain ⟨S, r, t, w, pl, a1, a2, a3, a4, a5, a6, a7, a8, a9, a10, a11, a12, a13, a14, a15, a16, a17, rfl, hC, hA⟩ := hu3
        exact leaf _ hu5
      · refine wm_set (k := i + 1) hu2 (by omega) (by omega) (fun r3 u3 hu3 => ?_)
        have hu4 := hu3
        obtain ⟨S, r, t, w, pl, a1, a2, a3, a4, a5, a6, a7, a8, a9, a10, a11, a12, a13, a14, a15, a16, a17, rfl, hC, hA⟩ := hu3
        refine wm_set (k := i + 1) hu4 (by omega) (by omega) (fun r3 u3 hu3 => ?_)
        have hu5 := hu3
        obtain ⟨S, r, t, w, pl, a1, a2, a3, a4, a5, a6, a7, a8, a9, a10, a11, a12, a13, a14, a15, a16, a17, rfl, hC, hA⟩ := hu3
        exact leaf _ hu5
      · refine wm_revoke (k := i + 1) hu2 (by omega) (by omega) (fun r3 u3 hu3 => ?_)
        have hu4 := hu3
        obtain ⟨S, r, t, w, pl, a1, a2, a3, a4, a5, a6, a7, a8, a9, a10, a11, a12, a13, a14, a15, a16, a17, rfl, hC, hA⟩ := hu3
        exact leaf _ hu4
      · exact leaf _ hu2
end
def tp_mkQ (a1 a2 a3 a4 a5 a6 a7 a8 a10 : Nat → Int32) : Nat → Nat → Int32
  | 1 => a1
  | 2 => a2
  | 3 => a3
  | 4 => a4
  | 5 => a5
  | 6 => a6
  | 7 => a7
  | 8 => a8
  | _ => a10
/-- what make leaves, by the script -/
def tp_F (L : Nat) (xs : Nat → Int32) (n : Nat) (Q : Nat → Nat → Int32) (h : Nat → Int32) : Prop :=
  n = min (tp_M (tp_cell L xs 0)) 10 ∧ tp_C L xs n (Q 1) (Q 2) (Q 3) (Q 4) (Q 7) h ∧ Q 10 0 = nI (tp_e0 (tp_cell L xs 0)) ∧ Q 10 1 = (if tp_cell L xs 0 &&& 16777216 = 0 then -1 else nI (tp_e1 (tp_cell L xs 0))) ∧ Q 10 2 = -1
theorem wm_all {post : St1 → Prop} {L : Nat} {xs a10 : Nat → Int32} (hL : L ≤ 260) (ha : ∀ j, j < 3 → a10 j = -1) (H : ∀ u n Q h, tp_U n Q h u → tp_F L xs n Q h → post u) :
    wpL_make post L xs (0, 0, 0, 0, 0, 0, (fun _ => 0), (fun _ => 0), (fun _ => 0), (fun _ => 0), (fun _ => 0), (fun _ => 0), (fun _ => 0), (fun _ => 0), (fun _ => 0), a10, (fun _ => 0), (fun _ => 0), (fun _ => 0), (fun _ => 0), (fun _ => 0), (fun _ => 0), (fun _ => 0)) := by
  unfold wpL_make
  dsimp only
  refine wq_cell 0 hL (by omega) rfl (nm_r (tp_Ne _).1 (nm_r (tp_Ke _).1 (nm_r (tp_Me _).1 ?_)))
  refine wm_loop (A := a10) (u := (0, 0, 0, 0, 0, 0, (fun _ => 0), (fun _ => 0), (fun _ => 0), (fun _ => 0), (fun _ => 0), (fun _ => 0), (fun _ => 0), (fun _ => 0), (fun _ => 0), a10, (fun _ => 0), (fun _ => 0), (fun _ => 0), (fun _ => 0), (fun _ => 0), (fun _ => 0), (fun _ => 0))) hL rfl ?_ ?_
  · refine ⟨0, 0, 0, 0, 0, (fun _ => 0), (fun _ => 0), (fun _ => 0), (fun _ => 0), (fun _ => 0), (fun _ => 0), (fun _ => 0), (fun _ => 0), (fun _ => 0), a10, (fun _ => 0), (fun _ => 0), (fun _ => 0), (fun _ => 0), (fun _ => 0), (fun _ => 0), (fun _ => 0), rfl, ⟨fun c hc => absurd hc (by omega), fun k _ => ⟨0, by omega, rfl⟩, fun _ _ => rfl⟩, rfl⟩
  · rintro u A' ⟨S, r, t, w, pl, a1, a2, a3, a4, a5, a6, a7, a8, a9, b10, a11, a12, a13, a14, a15, a16, a17, rfl, hC, rfl⟩ h0 h1 h2
    refine H _ _ (tp_mkQ a1 a2 a3 a4 a5 a6 a7 a8 b10) a9 ⟨S, r, t, w, pl, a11, a12, a13, a14, a15, a16, a17, rfl⟩ ⟨rfl, hC, h0, ?_, ?_⟩
    · rw [ha 1 (by omega)] at h1
      exact h1
    · rw [ha 2 (by omega)] at h2
      exact h2
end
section
/-! ===== the law's path ===== -/
theorem tp_uu (f : Nat → Int32) (k : Nat) (x y : Int32) (h : y = f k) : upd (upd f k x) k y = f := by
  funext j
  by_cases e : j = k
  · rw [e, pk_us, h]
  · rw [pk_un e, pk_un e]
theorem wp_set {post : Int32 → St1 → Prop} {S r t w pl : Int32} {a1 a2 a3 a4 a5 a6 a7 a8 a9 a10 a11 a12 a13 a14 a15 a16 a17 : Nat → Int32} {n c j v : Nat} {y : Int32} (hn : n ≤ 10) (hc : c < n) (hj : j = 2 ∨ j = 3) (hv : v ≤ 255) (hy : y = nI v)
    (H : post (a7 (5 * c + j)) (nI n, S, r, t, w, pl, a1, a2, a3, a4, a5, a6, upd a7 (5 * c + j) y, a8, a9, a10, a11, a12, a13, a14, a15, a16, a17)) : wpX_set post (nI n, S, r, t, w, pl, a1, a2, a3, a4, a5, a6, a7, a8, a9, a10, a11, a12, a13, a14, a15, a16, a17) (nI c) (nI j) y := by
  obtain ⟨hin, hcl⟩ := wq_i5 (x := nI c) j (by omega) (by omega) rfl rfl
  unfold wpX_set
  dsimp only
  rw [hcl]
  refine wq_certA (by omega) hc (br_f (by decide) (br_f (nI_pos (by omega)) (br_f (nI_nlt (a := 4) (b := j) (by omega) (by decide)) (br_f (by rw [hy]; exact nI_pos (by omega)) ?_))))
  unfold wpX_greatest
  refine br_f (nI_ne0 (by omega) (by omega)) (br_f (fun z => ?_) (br_f (fun z => ?_) (br_t ?_ ⟨hin, nm_e ⟨hin, nm_e H⟩⟩)))
  · have := (nI_eq (a := j) (b := 1) (by omega) (by decide)).mp z
    omega
  · have := (nI_eq (a := j) (b := 4) (by omega) (by decide)).mp z
    omega
  · rw [hy]
    exact nI_le (b := 255) hv (by decide)
section
variable {Q : Nat → Nat → Int32} {h : Nat → Int32} {S r t w pl : Int32} {b11 b12 b13 b14 b15 b16 b17 : Nat → Int32} {n : Nat} {L : Nat} {xs : Nat → Int32} {post : Int32 → St1 → Prop}
  {J : Int32 → Int32 → Int32 → Int32 → Int32 → Int32 → Int32 → Int32 → Int32 → (Nat → Int32) → (Nat → Int32) → (Nat → Int32) → (Nat → Int32) → (Nat → Int32) → (Nat → Int32) → (Nat → Int32) → (Nat → Int32) → (Nat → Int32) → (Nat → Int32) → (Nat → Int32) → (Nat → Int32) → (Nat → Int32) → (Nat → Int32) → (Nat → Int32) → (Nat → Int32) → (Nat → Int32) → Prop}
theorem wp_466 {x2 x3 x4 x7 x8 x12 x13 x14 : Int32} {c : Nat} (hn : n ≤ 10) (hset : tp_set Q) (hc : c < n)
    (H : J (x12 ||| Q 7 (5 * c + 3)) (x13 &&& Q 7 (5 * c + 2)) (x14 + 1) (nI n) S r t w pl (Q 1) (Q 2) (Q 3) (Q 4) (Q 5) (Q 6) (Q 7) (Q 8) h (Q 10) b11 b12 b13 b14 b15 b16 b17) : wL_path_466 post L xs J x2 x3 x4 x7 x8 x12 x13 x14 (nI c) (nI n) S r t w pl (Q 1) (Q 2) (Q 3) (Q 4) (Q 5) (Q 6) (Q 7) (Q 8) h (Q 10) b11 b12 b13 b14 b15 b16 b17 := by
  obtain ⟨v3, hv3, e3⟩ := hset (5 * c + 3) (by omega)
  obtain ⟨v2, hv2, e2⟩ := hset (5 * c + 2) (by omega)
  unfold wL_path_466
  refine wp_set (j := 3) (v := 0) hn hc (Or.inr rfl) (by omega) rfl ?_
  refine wp_set (j := 3) (v := v3) hn hc (Or.inr rfl) hv3 e3 ?_
  rw [tp_uu (Q 7) (5 * c + 3) 0 _ rfl]
  refine nm_e ?_
  refine wp_set (j := 2) (v := 255) hn hc (Or.inl rfl) (by omega) rfl ?_
  refine wp_set (j := 2) (v := v2) hn hc (Or.inl rfl) hv2 e2 ?_
  rw [tp_uu (Q 7) (5 * c + 2) 255 _ rfl]
  exact nm_e (nm_e H)
theorem wp_438 {x2 x4 x7 x8 x12 x13 x14 x17 : Int32} {c tm k : Nat} (h0 : 0 < n) (hn : n ≤ 10) (hset : tp_set Q) (hc : c < n) (ht : tm ≤ 100) (hk : k < 5) (ek : x17 = nI k)
    (hT : tb_b (x13 &&& (x12 ^^^ (-1))) k = true → tp_tr Q (tp_g Q h tm 0) n c = true)
    (H : ∀ u, tp_U n Q h u → J (x12 ||| Q 7 (5 * c + 3)) (x13 &&& Q 7 (5 * c + 2)) (x14 + 1) u.1 u.2.1 u.2.2.1 u.2.2.2.1 u.2.2.2.2.1 u.2.2.2.2.2.1 u.2.2.2.2.2.2.1 u.2.2.2.2.2.2.2.1 u.2.2.2.2.2.2.2.2.1 u.2.2.2.2.2.2.2.2.2.1 u.2.2.2.2.2.2.2.2.2.2.1 u.2.2.2.2.2.2.2.2.2.2.2.1 u.2.2.2.2.2.2.2.2.2.2.2.2.1 u.2.2.2.2.2.2.2.2.2.2.2.2.2.1 u.2.2.2.2.2.2.2.2.2.2.2.2.2.2.1 u.2.2.2.2.2.2.2.2.2.2.2.2.2.2.2.1 u.2.2.2.2.2.2.2.2.2.2.2.2.2.2.2.2.1 u.2.2.2.2.2.2.2.2.2.2.2.2.2.2.2.2.2.1 u.2.2.2.2.2.2.2.2.2.2.2.2.2.2.2.2.2.2.1 u.2.2.2.2.2.2.2.2.2.2.2.2.2.2.2.2.2.2.2.1 u.2.2.2.2.2.2.2.2.2.2.2.2.2.2.2.2.2.2.2.2.1 u.2.2.2.2.2.2.2.2.2.2.2.2.2.2.2.2.2.2.2.2.2.1 u.2.2.2.2.2.2.2.2.2.2.2.2.2.2.2.2.2.2.2.2.2.2) : wL_path_438 post L xs J x2 (nI tm) x4 x7 x8 x12 x13 x14 (nI c) x17 (nI n) S r t w pl (Q 1) (Q 2) (Q 3) (Q 4) (Q 5) (Q 6) (Q 7) (Q 8) h (Q 10) b11 b12 b13 b14 b15 b16 b17 := by
  unfold wL_path_438
  refine ⟨fun _ => wp_466 hn hset hc (H _ ⟨_, _, _, _, _, _, _, _, _, _, _, _, rfl⟩), fun e => ?_⟩
  have hb : tp_tr Q (tp_g Q h tm 0) n c = true := by
    apply hT
    cases hb : tb_b (x13 &&& (x12 ^^^ (-1))) k with
    | true => rfl
    | false =>
      rw [ek] at e
      exact absurd ((tb_mask k (by omega) _).mpr hb) e
  refine wq_trusted ⟨_, _, _, _, _, _, _, _, _, _, _, _, rfl⟩ h0 hn hset hc ht ?_
  rintro u ⟨S, r, t, w, pl, b11, b12, b13, b14, b15, b16, b17, rfl⟩
  rw [hb]
  exact br_t rfl (wp_466 hn hset hc (H _ ⟨_, _, _, _, _, _, _, _, _, _, _, _, rfl⟩))
end
/-- what the law's checks of a path take of the script -/
def tp_Q (L : Nat) (xs : Nat → Int32) (n : Nat) (Q : Nat → Nat → Int32) : Prop :=
  (∀ c, c < n → Q 1 c = nI (tp_in (tp_cell L xs 0) (tp_cell L xs (1 + c))) ∧ Q 2 c = nI (tp_ik (tp_cell L xs 0) (tp_cell L xs (1 + c))) ∧ Q 3 c = nI (tp_sn (tp_cell L xs 0) (tp_cell L xs (1 + c))) ∧ Q 4 c = nI (tp_sk (tp_cell L xs 0) (tp_cell L xs (1 + c)))) ∧
  Q 10 0 = nI (tp_e0 (tp_cell L xs 0)) ∧ Q 10 1 = (if tp_cell L xs 0 &&& 16777216 = 0 then -1 else nI (tp_e1 (tp_cell L xs 0))) ∧ Q 10 2 = -1
/-- the found path, place by place -/
theorem tp_along {Q : Nat → Nat → Int32} {g : Nat → Bool} {n m c p : Nat} (hI : tp_Inv Q g n m (tp_all Q g n) (tp_P Q g n)) (hc : c < n) (hp : tp_ff Q g (tp_all Q g n) c = some p) {i : Nat} (hi : i ≤ (tp_P Q g n p).length) :
    ∃ e a sa, (tp_P Q g n p ++ [c])[i]? = some e ∧ e < n ∧ (tp_all Q g n)[a]? = some sa ∧ tp_P Q g n a = (tp_P Q g n p ++ [c]).take i ∧ g e = true ∧ tp_sg Q e sa = true ∧ ¬ tp_cm Q e sa = 0 := by
  obtain ⟨s, hs, he⟩ := tp_ff_spec hp
  obtain ⟨a, sa, h1, h2, h3, h4⟩ := tp_chain hI p s hs i hi
  have htake : (tp_P Q g n p ++ [c]).take i = (tp_P Q g n p).take i := List.take_append_of_le_length hi
  by_cases hlt : i < (tp_P Q g n p).length
  · have hx := List.getElem?_eq_getElem hlt
    have hok := tp_ok_iff.mp (h3 _ hx)
    refine ⟨_, a, sa, by rw [List.getElem?_append_left hlt]; exact hx, ?_, h1, by rw [htake]; exact h2, hok.2.1, hok.2.2.1, hok.2.2.2.1⟩
    exact tp_mem hI p (tp_lt hs) _ (List.getElem_mem hlt)
  · have ei : i = (tp_P Q g n p).length := by omega
    have ha : a = p := h4 (List.getElem?_eq_none (by omega))
    subst ha
    rw [hs] at h1
    have hsa : s = sa := Option.some.inj h1
    subst hsa
    have hew := tp_ew_iff.mp he
    refine ⟨c, a, s, ?_, hc, hs, by rw [htake]; exact h2, hew.1, hew.2.1, hew.2.2.2⟩
    rw [ei, List.getElem?_append_right (Nat.le_refl _), Nat.sub_self]
    rfl
theorem tp_takeS {w : List Nat} {i e : Nat} (h : w[i]? = some e) : w.take (i + 1) = w.take i ++ [e] := by
  rw [List.take_add_one, h]
  rfl
/-- an anchored certificate begins at one of the two anchors -/
theorem tp_begins {L : Nat} {xs : Nat → Int32} {n : Nat} {Q : Nat → Nat → Int32} (hQ : tp_Q L xs n Q) {c : Nat} (hc : c < n) (h : tp_an Q c = true) :
    10 * tp_in (tp_cell L xs 0) (tp_cell L xs (1 + c)) + tp_ik (tp_cell L xs 0) (tp_cell L xs (1 + c)) = tp_e0 (tp_cell L xs 0) ∨ (¬ tp_cell L xs 0 &&& 16777216 = 0 ∧ 10 * tp_in (tp_cell L xs 0) (tp_cell L xs (1 + c)) + tp_ik (tp_cell L xs 0) (tp_cell L xs (1 + c)) = tp_e1 (tp_cell L xs 0)) := by
  obtain ⟨q1, q2, _, _⟩ := hQ.1 c hc
  have l1 := tp_lin (tp_cell L xs 0) (tp_cell L xs (1 + c))
  have l2 := tp_lik (tp_cell L xs 0) (tp_cell L xs (1 + c))
  have l3 := tp_lsn (tp_cell L xs 0) (tp_cell L xs 0)
  have l4 := tp_lik (tp_cell L xs 0) (tp_cell L xs 0)
  have l5 := tp_le1 (tp_cell L xs 0)
  have l6 : tp_e0 (tp_cell L xs 0) < 80 := by
    unfold tp_e0
    omega
  have e : 10 * Q 1 c + Q 2 c = nI (10 * tp_in (tp_cell L xs 0) (tp_cell L xs (1 + c)) + tp_ik (tp_cell L xs 0) (tp_cell L xs (1 + c))) := by
    rw [q1, q2, show (10 : Int32) = nI 10 from rfl, pk_mul, nI_add]
  unfold tp_an at h
  rw [e, hQ.2.1, hQ.2.2.1, hQ.2.2.2, Bool.or_eq_true, Bool.or_eq_true, decide_eq_true_iff, decide_eq_true_iff, decide_eq_true_iff] at h
  have neg : ∀ k : Nat, k < 100 → ¬ (-1 : Int32) = nI k := by
    intro k hk z
    have h1 : (0 : Int32) ≤ nI k := nI_pos' (by omega)
    rw [← z] at h1
    exact absurd h1 (by decide)
  rcases h with h | h | h
  · exact Or.inl ((nI_eq (by omega) (by omega)).mp h).symm
  · by_cases hb : tp_cell L xs 0 &&& 16777216 = 0
    · rw [if_pos hb] at h
      exact absurd h (neg _ (by omega))
    · rw [if_neg hb] at h
      exact Or.inr ⟨hb, ((nI_eq (by omega) (by omega)).mp h).symm⟩
  · exact absurd h (neg _ (by omega))
section
variable {Q : Nat → Nat → Int32} {h : Nat → Int32} {n : Nat} {L : Nat} {xs : Nat → Int32} {post : Int32 → St1 → Prop}
theorem wp_312 {u : St1} {c tm p m : Nat} (hL : L ≤ 260) (hu : tp_U n Q h u) (h0 : 0 < n) (hn : n ≤ 10) (hset : tp_set Q) (hQ : tp_Q L xs n Q) (hc : c < n) (ht : tm ≤ 100)
    (hI : tp_Inv Q (tp_g Q h tm 0) n m (tp_all Q (tp_g Q h tm 0) n) (tp_P Q (tp_g Q h tm 0) n)) (hD : (tp_P Q (tp_g Q h tm 0) n p).length ≤ 5) (hp : tp_ff Q (tp_g Q h tm 0) (tp_all Q (tp_g Q h tm 0) n) c = some p)
    (H : ∀ u, tp_U n Q h u → post 1 u) :
    ∃ fu, wL_path_312 post L xs (nI c) (nI tm) (nI ((tp_P Q (tp_g Q h tm 0) n p).length + 1)) (nI (tp_N (tp_cell L xs 0))) (nI (tp_K (tp_cell L xs 0))) fu 0 255 0 u.1 u.2.1 u.2.2.1 u.2.2.2.1 u.2.2.2.2.1 u.2.2.2.2.2.1 u.2.2.2.2.2.2.1 u.2.2.2.2.2.2.2.1 u.2.2.2.2.2.2.2.2.1 u.2.2.2.2.2.2.2.2.2.1 u.2.2.2.2.2.2.2.2.2.2.1 u.2.2.2.2.2.2.2.2.2.2.2.1 u.2.2.2.2.2.2.2.2.2.2.2.2.1 u.2.2.2.2.2.2.2.2.2.2.2.2.2.1 u.2.2.2.2.2.2.2.2.2.2.2.2.2.2.1 u.2.2.2.2.2.2.2.2.2.2.2.2.2.2.2.1 u.2.2.2.2.2.2.2.2.2.2.2.2.2.2.2.2.1 u.2.2.2.2.2.2.2.2.2.2.2.2.2.2.2.2.2.1 u.2.2.2.2.2.2.2.2.2.2.2.2.2.2.2.2.2.2.1 u.2.2.2.2.2.2.2.2.2.2.2.2.2.2.2.2.2.2.2.1 u.2.2.2.2.2.2.2.2.2.2.2.2.2.2.2.2.2.2.2.2.1 u.2.2.2.2.2.2.2.2.2.2.2.2.2.2.2.2.2.2.2.2.2.1 u.2.2.2.2.2.2.2.2.2.2.2.2.2.2.2.2.2.2.2.2.2.2 := by
  have hpath : tp_path Q (tp_g Q h tm 0) n c = some (tp_P Q (tp_g Q h tm 0) n p ++ [c]) := by
    unfold tp_path
    rw [hp]
    rfl
  have hN := tp_Ne (tp_cell L xs 0)
  have hK := tp_Ke (tp_cell L xs 0)
  have hN0 : ¬ nI (tp_N (tp_cell L xs 0)) = 0 := nI_ne0 (by omega) (by omega)
  have hK0 : ¬ nI (tp_K (tp_cell L xs 0)) = 0 := nI_ne0 (by omega) (by omega)
  refine pk_loop (fun fu i (u : St1) => wL_path_312 post L xs (nI c) (nI tm) (nI ((tp_P Q (tp_g Q h tm 0) n p).length + 1)) (nI (tp_N (tp_cell L xs 0))) (nI (tp_K (tp_cell L xs 0))) fu (tp_ba Q ((tp_P Q (tp_g Q h tm 0) n p ++ [c]).take i)) (tp_al Q ((tp_P Q (tp_g Q h tm 0) n p ++ [c]).take i)) (nI i) u.1 u.2.1 u.2.2.1 u.2.2.2.1 u.2.2.2.2.1 u.2.2.2.2.2.1 u.2.2.2.2.2.2.1 u.2.2.2.2.2.2.2.1 u.2.2.2.2.2.2.2.2.1 u.2.2.2.2.2.2.2.2.2.1 u.2.2.2.2.2.2.2.2.2.2.1 u.2.2.2.2.2.2.2.2.2.2.2.1 u.2.2.2.2.2.2.2.2.2.2.2.2.1 u.2.2.2.2.2.2.2.2.2.2.2.2.2.1 u.2.2.2.2.2.2.2.2.2.2.2.2.2.2.1 u.2.2.2.2.2.2.2.2.2.2.2.2.2.2.2.1 u.2.2.2.2.2.2.2.2.2.2.2.2.2.2.2.2.1 u.2.2.2.2.2.2.2.2.2.2.2.2.2.2.2.2.2.1 u.2.2.2.2.2.2.2.2.2.2.2.2.2.2.2.2.2.2.1 u.2.2.2.2.2.2.2.2.2.2.2.2.2.2.2.2.2.2.2.1 u.2.2.2.2.2.2.2.2.2.2.2.2.2.2.2.2.2.2.2.2.1 u.2.2.2.2.2.2.2.2.2.2.2.2.2.2.2.2.2.2.2.2.2.1 u.2.2.2.2.2.2.2.2.2.2.2.2.2.2.2.2.2.2.2.2.2.2) (fun _ u => tp_U n Q h u) ((tp_P Q (tp_g Q h tm 0) n p).length + 1) 0 u (by omega) hu ?_ ?_
  · rintro fu u ⟨S, r, t, w, pl, b11, b12, b13, b14, b15, b16, b17, rfl⟩
    exact pk_le ((tp_P Q (tp_g Q h tm 0) n p).length + 1) ((tp_P Q (tp_g Q h tm 0) n p).length + 1) (fun _ => H _ ⟨_, _, _, _, _, _, _, _, _, _, _, _, rfl⟩) (fun z => absurd z (by omega))
  · rintro fu i u hi ⟨S, r, t, w, pl, b11, b12, b13, b14, b15, b16, b17, rfl⟩ hw
    obtain ⟨e, a, sa, he, hen, ha, hPa, hg, hsg, hcm⟩ := tp_along hI hc hp (i := i) (by omega)
    have hstep : tp_stp (tp_path Q (tp_g Q h tm 0) n c) i = nI e := by
      rw [hpath]
      exact tp_stp_s he
    obtain ⟨q1, q2, q3, q4⟩ := hQ.1 e hen
    have hsn := tp_lsn (tp_cell L xs 0) (tp_cell L xs (1 + e))
    rw [tp_takeS he, tp_ba_snoc, tp_al_snoc] at hw
    have h438 : ∀ S r t w pl b11 b12 b13 b14 b15 b16 b17, wL_path_438 post L xs (wL_path_312 post L xs (nI c) (nI tm) (nI ((tp_P Q (tp_g Q h tm 0) n p).length + 1)) (nI (tp_N (tp_cell L xs 0))) (nI (tp_K (tp_cell L xs 0))) fu) (nI c) (nI tm) (nI ((tp_P Q (tp_g Q h tm 0) n p).length + 1)) (nI (tp_N (tp_cell L xs 0))) (nI (tp_K (tp_cell L xs 0))) (tp_ba Q ((tp_P Q (tp_g Q h tm 0) n p ++ [c]).take i)) (tp_al Q ((tp_P Q (tp_g Q h tm 0) n p ++ [c]).take i)) (nI i) (nI e) (nI (tp_sn (tp_cell L xs 0) (tp_cell L xs (1 + e)))) (nI n) S r t w pl (Q 1) (Q 2) (Q 3) (Q 4) (Q 5) (Q 6) (Q 7) (Q 8) h (Q 10) b11 b12 b13 b14 b15 b16 b17 := by
      intro S r t w pl b11 b12 b13 b14 b15 b16 b17
      refine wp_438 h0 hn hset hen ht hsn rfl (fun hb => ?_) (fun u hu => ?_)
      · refine List.any_eq_true.mpr ⟨sa, List.mem_of_getElem? ha, tp_ew_iff.mpr ⟨hg, hsg, ?_, hcm⟩⟩
        unfold tp_op
        rw [tp_free hI a sa ha, hPa, q3, tb_bit _ (by omega), if_pos hb]
        rfl
      · rw [nI_1 i]
        exact hw u hu
    refine pk_le ((tp_P Q (tp_g Q h tm 0) n p).length + 1) i (fun z => absurd z (by omega)) (fun _ => ?_)
    refine wq_step ⟨_, _, _, _, _, _, _, _, _, _, _, _, rfl⟩ h0 hn hset hc ht (by omega) ?_
    rintro u ⟨S, r, t, w, pl, b11, b12, b13, b14, b15, b16, b17, rfl⟩
    rw [hstep]
    refine wq_cell (1 + e) hL (by omega) (nI_add 1 e) ⟨hN0, nm_r (tp_rsn _ _) ?_⟩
    refine pk_eq i 0 (fun ei => ?_) (fun ei => ?_)
    · exact br_t (by decide) (h438 _ _ _ _ _ _ _ _ _ _ _ _)
    · obtain ⟨e', a', sa', he', hen', _⟩ := tp_along hI hc hp (i := i - 1) (by omega)
      have hstep' : tp_stp (tp_path Q (tp_g Q h tm 0) n c) (i - 1) = nI e' := by
        rw [hpath]
        exact tp_stp_s he'
      obtain ⟨q1', q2', q3', q4'⟩ := hQ.1 e' hen'
      have ei1 : nI i - 1 = nI (i - 1) := pk_sub (a := i) (b := 1) (by omega)
      have hlast : (tp_P Q (tp_g Q h tm 0) n a).getLast? = some e' := by
        rw [hPa, show i = (i - 1) + 1 by omega, tp_takeS he', List.getLast?_append, List.getLast?_singleton]
        rfl
      have hsa1 := tp_lastk hI ha hlast
      unfold tp_sg at hsg
      rw [if_neg (by omega), hsa1, Nat.add_sub_cancel, Bool.and_eq_true, decide_eq_true_iff, decide_eq_true_iff, q1, q2, q3', q4'] at hsg
      rw [ei1]
      refine wq_step ⟨_, _, _, _, _, _, _, _, _, _, _, _, rfl⟩ h0 hn hset hc ht (by omega) ?_
      rintro u ⟨S, r, t, w, pl, b11, b12, b13, b14, b15, b16, b17, rfl⟩
      rw [hstep']
      refine br_f (nI_pos (by omega)) (wq_cell (1 + e') hL (by omega) (nI_add 1 e') ⟨hN0, hN0, br_t ?_ ⟨hK0, hK0, br_t ?_ (h438 _ _ _ _ _ _ _ _ _ _ _ _)⟩⟩)
      · rw [tp_rin, tp_rsn]
        exact hsg.1
      · rw [tp_rik, tp_rsk]
        exact hsg.2
end
end
section
/-! ===== path, whole; distrust ===== -/
section
variable {Q : Nat → Nat → Int32} {h : Nat → Int32} {n : Nat} {L : Nat} {xs : Nat → Int32} {post : Int32 → St1 → Prop}
theorem wp_265 {S r t w pl : Int32} {b11 b12 b13 b14 b15 b16 b17 : Nat → Int32} {c tm p m : Nat} (hL : L ≤ 260) (h0 : 0 < n) (hn : n ≤ 10) (hset : tp_set Q) (hQ : tp_Q L xs n Q) (hc : c < n) (ht : tm ≤ 100)
    (hI : tp_Inv Q (tp_g Q h tm 0) n m (tp_all Q (tp_g Q h tm 0) n) (tp_P Q (tp_g Q h tm 0) n)) (hD : (tp_P Q (tp_g Q h tm 0) n p).length ≤ 5) (hp : tp_ff Q (tp_g Q h tm 0) (tp_all Q (tp_g Q h tm 0) n) c = some p)
    (H : ∀ u, tp_U n Q h u → post 1 u) :
    wL_path_265 post L xs (nI c) (nI tm) (nI ((tp_P Q (tp_g Q h tm 0) n p).length + 1)) (nI (tp_N (tp_cell L xs 0))) (nI (tp_K (tp_cell L xs 0))) 1 (nI n) S r t w pl (Q 1) (Q 2) (Q 3) (Q 4) (Q 5) (Q 6) (Q 7) (Q 8) h (Q 10) b11 b12 b13 b14 b15 b16 b17 := by
  have hpath : tp_path Q (tp_g Q h tm 0) n c = some (tp_P Q (tp_g Q h tm 0) n p ++ [c]) := by
    unfold tp_path
    rw [hp]
    rfl
  have s1 : tp_stp (tp_path Q (tp_g Q h tm 0) n c) (tp_P Q (tp_g Q h tm 0) n p).length = nI c := by
    rw [hpath]
    apply tp_stp_s
    rw [List.getElem?_append_right (Nat.le_refl _), Nat.sub_self]
    rfl
  have s2 : tp_stp (tp_path Q (tp_g Q h tm 0) n c) ((tp_P Q (tp_g Q h tm 0) n p).length + 1) = -2 := by
    rw [hpath]
    apply tp_stp_n
    apply List.getElem?_eq_none
    rw [List.length_append]
    exact Nat.le_refl _
  have e1 : nI ((tp_P Q (tp_g Q h tm 0) n p).length + 1) - 1 = nI (tp_P Q (tp_g Q h tm 0) n p).length := nI_pred _
  unfold wL_path_265
  rw [e1]
  refine br_f (by decide) (wq_step ⟨_, _, _, _, _, _, _, _, _, _, _, _, rfl⟩ h0 hn hset hc ht (by omega) ?_)
  rintro u ⟨S, r, t, w, pl, b11, b12, b13, b14, b15, b16, b17, rfl⟩
  refine br_t s1 (wq_step ⟨_, _, _, _, _, _, _, _, _, _, _, _, rfl⟩ h0 hn hset hc ht (by omega) ?_)
  rintro u ⟨S, r, t, w, pl, b11, b12, b13, b14, b15, b16, b17, rfl⟩
  refine br_t s2 ?_
  exact wp_312 (u := (nI n, S, r, t, w, pl, Q 1, Q 2, Q 3, Q 4, Q 5, Q 6, Q 7, Q 8, h, Q 10, b11, b12, b13, b14, b15, b16, b17)) hL ⟨_, _, _, _, _, _, _, _, _, _, _, _, rfl⟩ h0 hn hset hQ hc ht hI hD hp H
theorem wp_path {u : St1} {c tm : Nat} (hL : L ≤ 260) (hu : tp_U n Q h u) (h0 : 0 < n) (hn : n ≤ 10) (hset : tp_set Q) (hQ : tp_Q L xs n Q) (hc : c < n) (ht : tm ≤ 100)
    (H : ∀ u, tp_U n Q h u → post 1 u) : wpL_path post L xs u (nI c) (nI tm) := by
  obtain ⟨m, hI, hD⟩ := tp_fin Q (tp_g Q h tm 0) hn h0
  have hx := tp_Ne (tp_cell L xs 0)
  have hN0 : ¬ nI (tp_N (tp_cell L xs 0)) = 0 := nI_ne0 (by omega) (by omega)
  have hK := tp_Ke (tp_cell L xs 0)
  have hK0 : ¬ nI (tp_K (tp_cell L xs 0)) = 0 := nI_ne0 (by omega) (by omega)
  obtain ⟨S, r, t, w, pl, b11, b12, b13, b14, b15, b16, b17, rfl⟩ := hu
  unfold wpL_path
  dsimp only
  refine wq_length ⟨_, _, _, _, _, _, _, _, _, _, _, _, rfl⟩ h0 hn hset hc ht ?_
  rintro u ⟨S, r, t, w, pl, b11, b12, b13, b14, b15, b16, b17, rfl⟩
  refine wq_trusted ⟨_, _, _, _, _, _, _, _, _, _, _, _, rfl⟩ h0 hn hset hc ht ?_
  rintro u ⟨S, r, t, w, pl, b11, b12, b13, b14, b15, b16, b17, rfl⟩
  cases hp : tp_ff Q (tp_g Q h tm 0) (tp_all Q (tp_g Q h tm 0) n) c with
  | none =>
    have htr : tp_tr Q (tp_g Q h tm 0) n c = false := by
      have := tp_ff_any (Q := Q) (g := tp_g Q h tm 0) (l := tp_all Q (tp_g Q h tm 0) n) (c := c)
      rw [hp] at this
      exact this.symm
    have hpath : tp_path Q (tp_g Q h tm 0) n c = none := by
      unfold tp_path
      rw [hp]
      rfl
    rw [htr, hpath]
    refine br_f (by decide) (br_t rfl (br_t rfl (wq_policies ⟨_, _, _, _, _, _, _, _, _, _, _, _, rfl⟩ h0 hn hset hc ht ?_)))
    rintro v u ⟨S, r, t, w, pl, b11, b12, b13, b14, b15, b16, b17, rfl⟩ hv
    refine br_t (hv.mpr htr) (br_t rfl (br_t rfl (br_t rfl (wq_step (i := 0) ⟨_, _, _, _, _, _, _, _, _, _, _, _, rfl⟩ h0 hn hset hc ht (by omega) ?_))))
    rintro u ⟨S, r, t, w, pl, b11, b12, b13, b14, b15, b16, b17, rfl⟩
    rw [hpath]
    refine br_t rfl (wq_narrow ⟨_, _, _, _, _, _, _, _, _, _, _, _, rfl⟩ h0 hn hset hc ht ?_)
    rintro v u ⟨S, r, t, w, pl, b11, b12, b13, b14, b15, b16, b17, rfl⟩ _ hv
    exact br_t (hv htr) (H _ ⟨_, _, _, _, _, _, _, _, _, _, _, _, rfl⟩)
  | some p =>
    have htr : tp_tr Q (tp_g Q h tm 0) n c = true := by
      have := tp_ff_any (Q := Q) (g := tp_g Q h tm 0) (l := tp_all Q (tp_g Q h tm 0) n) (c := c)
      rw [hp] at this
      exact this.symm
    have hpath : tp_path Q (tp_g Q h tm 0) n c = some (tp_P Q (tp_g Q h tm 0) n p ++ [c]) := by
      unfold tp_path
      rw [hp]
      rfl
    have hlenv : tp_len (some (tp_P Q (tp_g Q h tm 0) n p ++ [c])) = nI ((tp_P Q (tp_g Q h tm 0) n p).length + 1) := by
      show nI (List.length _) = _
      rw [List.length_append]
      rfl
    obtain ⟨s, hs, _⟩ := tp_ff_spec hp
    have hd := hD p (tp_lt hs)
    have hne2 : ¬ nI ((tp_P Q (tp_g Q h tm 0) n p).length + 1) = -2 := by
      intro z
      have h1 : (0 : Int32) ≤ nI ((tp_P Q (tp_g Q h tm 0) n p).length + 1) := nI_pos' (by omega)
      rw [z] at h1
      exact absurd h1 (by decide)
    rw [htr, hpath, hlenv]
    refine br_t rfl (br_f hne2 (br_t rfl (wq_policies ⟨_, _, _, _, _, _, _, _, _, _, _, _, rfl⟩ h0 hn hset hc ht ?_)))
    rintro v u ⟨S, r, t, w, pl, b11, b12, b13, b14, b15, b16, b17, rfl⟩ hv
    have hv0 : ¬ v = 0 := fun z => by
      have := hv.mp z
      rw [htr] at this
      exact absurd this (by decide)
    refine br_f hv0 (br_t rfl (br_f (by decide) (br_f (nI_nlt (b := 1) (by omega) (by omega)) (br_t (nI_le (b := 6) (by omega) (by decide)) ?_))))
    refine br_f (by decide) (wq_cell 0 hL (by omega) rfl (nm_r (tp_Ne _).1 (nm_r (tp_Ke _).1 ?_)))
    obtain ⟨e, a, sa, he, hen, ha, hPa, hg, hsg, hcm⟩ := tp_along hI hc hp (i := 0) (by omega)
    have hstep : tp_stp (tp_path Q (tp_g Q h tm 0) n c) 0 = nI e := by
      rw [hpath]
      exact tp_stp_s he
    have hroot := tp_nil hI ha hPa
    rw [hroot] at hsg
    have han : tp_an Q e = true := hsg
    have hbeg := tp_begins hQ hen han
    have l1 := tp_lin (tp_cell L xs 0) (tp_cell L xs (1 + e))
    have l2 := tp_lik (tp_cell L xs 0) (tp_cell L xs (1 + e))
    have l3 := tp_lsn (tp_cell L xs 0) (tp_cell L xs 0)
    have l4 := tp_lik (tp_cell L xs 0) (tp_cell L xs 0)
    have l5 := tp_le1 (tp_cell L xs 0)
    have l6 : tp_e0 (tp_cell L xs 0) < 80 := by
      unfold tp_e0
      omega
    have E : 10 * nI (tp_in (tp_cell L xs 0) (tp_cell L xs (1 + e))) + nI (tp_ik (tp_cell L xs 0) (tp_cell L xs (1 + e))) = nI (10 * tp_in (tp_cell L xs 0) (tp_cell L xs (1 + e)) + tp_ik (tp_cell L xs 0) (tp_cell L xs (1 + e))) := by
      rw [show (10 : Int32) = nI 10 from rfl, pk_mul, nI_add]
    have E0 : 10 * nI (tp_sn (tp_cell L xs 0) (tp_cell L xs 0)) + nI (tp_ik (tp_cell L xs 0) (tp_cell L xs 0)) = nI (tp_e0 (tp_cell L xs 0)) := by
      rw [show (10 : Int32) = nI 10 from rfl, pk_mul, nI_add]
      rfl
    have E1 : 10 * nI (tp_md ((tp_cell L xs 0 >>> ((18 : Int32) &&& 31)) &&& 3) (tp_N (tp_cell L xs 0))) + nI (tp_md ((tp_cell L xs 0 >>> ((20 : Int32) &&& 31)) &&& 3) (tp_K (tp_cell L xs 0))) = nI (tp_e1 (tp_cell L xs 0)) := by
      rw [show (10 : Int32) = nI 10 from rfl, pk_mul, nI_add]
      rfl
    refine wq_step (i := 0) ⟨_, _, _, _, _, _, _, _, _, _, _, _, rfl⟩ h0 hn hset hc ht (by omega) ?_
    rintro u ⟨S, r, t, w, pl, b11, b12, b13, b14, b15, b16, b17, rfl⟩
    rw [hstep]
    refine wq_cell (1 + e) hL (by omega) (nI_add 1 e) ⟨hN0, hK0, nm_r (by rw [tp_rin, tp_rik, E]) ⟨hN0, hK0, ?_⟩⟩
    rw [tp_rsn, tp_rik, E0]
    refine pk_eq (10 * tp_in (tp_cell L xs 0) (tp_cell L xs (1 + e)) + tp_ik (tp_cell L xs 0) (tp_cell L xs (1 + e))) (tp_e0 (tp_cell L xs 0)) (fun z => ?_) (fun z => ?_)
    · exact br_f (by decide) (wp_265 hL h0 hn hset hQ hc ht hI hd hp H)
    · have hb := hbeg.resolve_left z
      unfold wL_path_216
      rw [tp_r18, tp_r20, E1]
      exact br_t rfl (br_f hb.1 ⟨hN0, hK0, br_t (by rw [hb.2]) (wp_265 hL h0 hn hset hQ hc ht hI hd hp H)⟩)
theorem wp_distrust {u : St1} {a : Nat} (hu : tp_U n Q h u) (ha : a < 3)
    (H : ∀ r u A, tp_U n (tp_mkQ (Q 1) (Q 2) (Q 3) (Q 4) (Q 5) (Q 6) (Q 7) (Q 8) A) h u → (∀ j, j ≠ a → A j = Q 10 j) → ¬ 0 ≤ A a → (¬ 0 ≤ Q 10 a → r = -2) → post r u) : wpX_distrust post u (nI a) := by
  obtain ⟨S, r, t, w, pl, b11, b12, b13, b14, b15, b16, b17, rfl⟩ := hu
  have hin : vp_in (nI a) 3 := vp_in_nI ha (by decide)
  have hcl := nI_clamp (n := a) (by omega)
  unfold wpX_distrust
  dsimp only
  unfold wpX_isAnchor
  rw [hcl]
  refine br_f (nI_pos (by omega)) (br_f (nI_ge (b := 3) ha (by decide)) (br_f (by decide) ⟨hin, fun e => ⟨hin, nm_e ?_⟩, fun e => ?_⟩))
  · refine H _ _ (upd (Q 10) a (-1)) ⟨S, r, t, w, pl, b11, b12, b13, b14, b15, b16, b17, rfl⟩ (fun j hj => pk_un hj) ?_ (fun z => absurd e z)
    rw [pk_us]
    decide
  · exact H _ _ (Q 10) ⟨S, r, t, w, pl, b11, b12, b13, b14, b15, b16, b17, rfl⟩ (fun j hj => rfl) e (fun _ => rfl)
end
end
section
/-! ===== the law ===== -/
/-- to hold a certificate is to leave it out -/
theorem tp_held (Q : Nat → Nat → Int32) (h : Nat → Int32) (t c : Nat) : tp_g Q (upd h c 1) t 0 = tp_g Q h t (c + 1) := by
  funext x
  show tp_gd Q (upd h c 1) (nI t) 0 x = tp_gd Q h (nI t) (c + 1) x
  unfold tp_gd
  rw [tp_dy (show ¬ x + 1 = 0 by omega), Bool.true_and]
  by_cases e : x = c
  · subst e
    rw [pk_us, decide_eq_false (show ¬ (1 : Int32) = 0 by decide), tp_dn rfl, Bool.false_and, Bool.false_and]
  · rw [pk_un e, tp_dy (show ¬ x + 1 = c + 1 by omega), Bool.true_and]
theorem tp_g_less (Q : Nat → Nat → Int32) (h : Nat → Int32) (t c : Nat) : ∀ x, tp_g Q h t (c + 1) x = true → tp_g Q h t 0 x = true := by
  intro x hx
  have hx : tp_gd Q h (nI t) (c + 1) x = true := hx
  show tp_gd Q h (nI t) 0 x = true
  unfold tp_gd at hx ⊢
  rw [tp_dy (show ¬ x + 1 = 0 by omega), Bool.true_and]
  rw [Bool.and_eq_true] at hx
  exact hx.2
theorem tp_g_self (Q : Nat → Nat → Int32) (h : Nat → Int32) (t c : Nat) : tp_g Q h t (c + 1) c = false := by
  show tp_gd Q h (nI t) (c + 1) c = false
  unfold tp_gd
  rw [tp_dn rfl, Bool.false_and]
section
variable {Q : Nat → Nat → Int32} {h : Nat → Int32} {n : Nat} {L : Nat} {xs : Nat → Int32} {post : Int32 → Prop} {kc ks : Nat}
theorem wl_275 {u : St1} (hu : tp_U n Q h u) (h0 : 0 < n) (hn : n ≤ 10) (hset : tp_set Q) (hQ : tp_Q L xs n Q) (H : post 1) : wL_law_275 post L xs kc ks u.1 u.2.1 u.2.2.1 u.2.2.2.1 u.2.2.2.2.1 u.2.2.2.2.2.1 u.2.2.2.2.2.2.1 u.2.2.2.2.2.2.2.1 u.2.2.2.2.2.2.2.2.1 u.2.2.2.2.2.2.2.2.2.1 u.2.2.2.2.2.2.2.2.2.2.1 u.2.2.2.2.2.2.2.2.2.2.2.1 u.2.2.2.2.2.2.2.2.2.2.2.2.1 u.2.2.2.2.2.2.2.2.2.2.2.2.2.1 u.2.2.2.2.2.2.2.2.2.2.2.2.2.2.1 u.2.2.2.2.2.2.2.2.2.2.2.2.2.2.2.1 u.2.2.2.2.2.2.2.2.2.2.2.2.2.2.2.2.1 u.2.2.2.2.2.2.2.2.2.2.2.2.2.2.2.2.2.1 u.2.2.2.2.2.2.2.2.2.2.2.2.2.2.2.2.2.2.1 u.2.2.2.2.2.2.2.2.2.2.2.2.2.2.2.2.2.2.2.1 u.2.2.2.2.2.2.2.2.2.2.2.2.2.2.2.2.2.2.2.2.1 u.2.2.2.2.2.2.2.2.2.2.2.2.2.2.2.2.2.2.2.2.2.1 u.2.2.2.2.2.2.2.2.2.2.2.2.2.2.2.2.2.2.2.2.2.2 := by
  obtain ⟨S, r, t, w, pl, b11, b12, b13, b14, b15, b16, b17, rfl⟩ := hu
  unfold wL_law_275
  dsimp only
  refine wp_distrust (n := n) (Q := Q) (h := h) (a := 0) ⟨_, _, _, _, _, _, _, _, _, _, _, _, rfl⟩ (by omega) ?_
  rintro r1 u A ⟨S, r, t, w, pl, b11, b12, b13, b14, b15, b16, b17, rfl⟩ hA1 hA2 _
  refine wp_distrust (n := n) (Q := tp_mkQ (Q 1) (Q 2) (Q 3) (Q 4) (Q 5) (Q 6) (Q 7) (Q 8) A) (h := h) (a := 1) ⟨_, _, _, _, _, _, _, _, _, _, _, _, rfl⟩ (by omega) ?_
  intro r2 u B hu hB1 hB2 _
  have hB0 : ¬ 0 ≤ B 0 := by
    rw [hB1 0 (by decide)]
    exact hA2
  have hB3 : ¬ 0 ≤ B 2 := by
    rw [hB1 2 (by decide)]
    show ¬ 0 ≤ A 2
    rw [hA1 2 (by decide), hQ.2.2.2]
    decide
  have hu : tp_U n (tp_mkQ (Q 1) (Q 2) (Q 3) (Q 4) (Q 5) (Q 6) (Q 7) (Q 8) B) h u := hu
  have hset' : tp_set (tp_mkQ (Q 1) (Q 2) (Q 3) (Q 4) (Q 5) (Q 6) (Q 7) (Q 8) B) := hset
  have han : ∀ c, c < n → tp_an (tp_mkQ (Q 1) (Q 2) (Q 3) (Q 4) (Q 5) (Q 6) (Q 7) (Q 8) B) c = false := by
    intro c hc
    obtain ⟨q1, q2, _, _⟩ := hQ.1 c hc
    have l1 := tp_lin (tp_cell L xs 0) (tp_cell L xs (1 + c))
    have l2 := tp_lik (tp_cell L xs 0) (tp_cell L xs (1 + c))
    have hpos : (0 : Int32) ≤ (10 * Q 1 c) + Q 2 c := by
      rw [q1, q2, show (10 : Int32) = nI 10 from rfl, pk_mul, nI_add]
      exact nI_pos' (by omega)
    show (decide (B 0 = (10 * Q 1 c) + Q 2 c) || (decide (B 1 = (10 * Q 1 c) + Q 2 c) || decide (B 2 = (10 * Q 1 c) + Q 2 c))) = false
    rw [decide_eq_false (fun z => hB0 (by rw [z]; exact hpos)), decide_eq_false (fun z => hB2 (by rw [z]; exact hpos)), decide_eq_false (fun z => hB3 (by rw [z]; exact hpos))]
    rfl
  have hct : ∀ tm, nI (tp_ct (tp_tr (tp_mkQ (Q 1) (Q 2) (Q 3) (Q 4) (Q 5) (Q 6) (Q 7) (Q 8) B) (tp_g (tp_mkQ (Q 1) (Q 2) (Q 3) (Q 4) (Q 5) (Q 6) (Q 7) (Q 8) B) h tm 0) n) n) = 0 := by
    intro tm
    rw [tp_ct_0 n (fun c hc => tp_tr_none _ _ n han hc)]
    rfl
  obtain ⟨S, r, t, w, pl, b11, b12, b13, b14, b15, b16, b17, rfl⟩ := hu
  refine wq_count (n := n) (Q := tp_mkQ (Q 1) (Q 2) (Q 3) (Q 4) (Q 5) (Q 6) (Q 7) (Q 8) B) (h := h) (tm := 5) ⟨_, _, _, _, _, _, _, _, _, _, _, _, rfl⟩ h0 hn hset' (by omega) ?_
  rintro u ⟨S, r, t, w, pl, b11, b12, b13, b14, b15, b16, b17, rfl⟩
  refine br_t (hct 5) ?_
  refine wq_count (n := n) (Q := tp_mkQ (Q 1) (Q 2) (Q 3) (Q 4) (Q 5) (Q 6) (Q 7) (Q 8) B) (h := h) (tm := 100) ⟨_, _, _, _, _, _, _, _, _, _, _, _, rfl⟩ h0 hn hset' (by omega) ?_
  rintro u ⟨S, r, t, w, pl, b11, b12, b13, b14, b15, b16, b17, rfl⟩
  refine br_t (hct 100) ?_
  refine wp_distrust (n := n) (Q := tp_mkQ (Q 1) (Q 2) (Q 3) (Q 4) (Q 5) (Q 6) (Q 7) (Q 8) B) (h := h) (a := 2) ⟨_, _, _, _, _, _, _, _, _, _, _, _, rfl⟩ (by omega) ?_
  rintro r3 u D ⟨S, r, t, w, pl, b11, b12, b13, b14, b15, b16, b17, rfl⟩ _ _ hr
  exact br_t (hr hB3) H
theorem wl_76 {J : Int32 → Int32 → Int32 → Int32 → Int32 → Int32 → Int32 → (Nat → Int32) → (Nat → Int32) → (Nat → Int32) → (Nat → Int32) → (Nat → Int32) → (Nat → Int32) → (Nat → Int32) → (Nat → Int32) → (Nat → Int32) → (Nat → Int32) → (Nat → Int32) → (Nat → Int32) → (Nat → Int32) → (Nat → Int32) → (Nat → Int32) → (Nat → Int32) → (Nat → Int32) → Prop} {u : St1} {k tm : Nat} (hL : L ≤ 260) (hu : tp_U n Q h u) (h0 : 0 < n) (hn : n ≤ 10) (hset : tp_set Q) (hQ : tp_Q L xs n Q) (hh : ∀ c, c < 12 → h c = 0) (hk : k < L) (ht : tm ≤ 100)
    (H : ∀ u, tp_U n Q h u → J (nI (k + 1)) u.1 u.2.1 u.2.2.1 u.2.2.2.1 u.2.2.2.2.1 u.2.2.2.2.2.1 u.2.2.2.2.2.2.1 u.2.2.2.2.2.2.2.1 u.2.2.2.2.2.2.2.2.1 u.2.2.2.2.2.2.2.2.2.1 u.2.2.2.2.2.2.2.2.2.2.1 u.2.2.2.2.2.2.2.2.2.2.2.1 u.2.2.2.2.2.2.2.2.2.2.2.2.1 u.2.2.2.2.2.2.2.2.2.2.2.2.2.1 u.2.2.2.2.2.2.2.2.2.2.2.2.2.2.1 u.2.2.2.2.2.2.2.2.2.2.2.2.2.2.2.1 u.2.2.2.2.2.2.2.2.2.2.2.2.2.2.2.2.1 u.2.2.2.2.2.2.2.2.2.2.2.2.2.2.2.2.2.1 u.2.2.2.2.2.2.2.2.2.2.2.2.2.2.2.2.2.2.1 u.2.2.2.2.2.2.2.2.2.2.2.2.2.2.2.2.2.2.2.1 u.2.2.2.2.2.2.2.2.2.2.2.2.2.2.2.2.2.2.2.2.1 u.2.2.2.2.2.2.2.2.2.2.2.2.2.2.2.2.2.2.2.2.2.1 u.2.2.2.2.2.2.2.2.2.2.2.2.2.2.2.2.2.2.2.2.2.2) : ∃ fu, wL_law_76 post L xs J (nI n) (nI k) (nI tm) kc ks fu 0 0 u.1 u.2.1 u.2.2.1 u.2.2.2.1 u.2.2.2.2.1 u.2.2.2.2.2.1 u.2.2.2.2.2.2.1 u.2.2.2.2.2.2.2.1 u.2.2.2.2.2.2.2.2.1 u.2.2.2.2.2.2.2.2.2.1 u.2.2.2.2.2.2.2.2.2.2.1 u.2.2.2.2.2.2.2.2.2.2.2.1 u.2.2.2.2.2.2.2.2.2.2.2.2.1 u.2.2.2.2.2.2.2.2.2.2.2.2.2.1 u.2.2.2.2.2.2.2.2.2.2.2.2.2.2.1 u.2.2.2.2.2.2.2.2.2.2.2.2.2.2.2.1 u.2.2.2.2.2.2.2.2.2.2.2.2.2.2.2.2.1 u.2.2.2.2.2.2.2.2.2.2.2.2.2.2.2.2.2.1 u.2.2.2.2.2.2.2.2.2.2.2.2.2.2.2.2.2.2.1 u.2.2.2.2.2.2.2.2.2.2.2.2.2.2.2.2.2.2.2.1 u.2.2.2.2.2.2.2.2.2.2.2.2.2.2.2.2.2.2.2.2.1 u.2.2.2.2.2.2.2.2.2.2.2.2.2.2.2.2.2.2.2.2.2.1 u.2.2.2.2.2.2.2.2.2.2.2.2.2.2.2.2.2.2.2.2.2.2 := by
  refine pk_loop (fun fu i (u : St1) => wL_law_76 post L xs J (nI n) (nI k) (nI tm) kc ks fu (nI (tp_ct (tp_tr Q (tp_g Q h tm 0) n) i)) (nI i) u.1 u.2.1 u.2.2.1 u.2.2.2.1 u.2.2.2.2.1 u.2.2.2.2.2.1 u.2.2.2.2.2.2.1 u.2.2.2.2.2.2.2.1 u.2.2.2.2.2.2.2.2.1 u.2.2.2.2.2.2.2.2.2.1 u.2.2.2.2.2.2.2.2.2.2.1 u.2.2.2.2.2.2.2.2.2.2.2.1 u.2.2.2.2.2.2.2.2.2.2.2.2.1 u.2.2.2.2.2.2.2.2.2.2.2.2.2.1 u.2.2.2.2.2.2.2.2.2.2.2.2.2.2.1 u.2.2.2.2.2.2.2.2.2.2.2.2.2.2.2.1 u.2.2.2.2.2.2.2.2.2.2.2.2.2.2.2.2.1 u.2.2.2.2.2.2.2.2.2.2.2.2.2.2.2.2.2.1 u.2.2.2.2.2.2.2.2.2.2.2.2.2.2.2.2.2.2.1 u.2.2.2.2.2.2.2.2.2.2.2.2.2.2.2.2.2.2.2.1 u.2.2.2.2.2.2.2.2.2.2.2.2.2.2.2.2.2.2.2.2.1 u.2.2.2.2.2.2.2.2.2.2.2.2.2.2.2.2.2.2.2.2.2.1 u.2.2.2.2.2.2.2.2.2.2.2.2.2.2.2.2.2.2.2.2.2.2) (fun _ u => tp_U n Q h u) n 0 u (by omega) hu ?_ ?_
  · rintro fu u ⟨S, r, t, w, pl, b11, b12, b13, b14, b15, b16, b17, rfl⟩
    refine pk_le n n (fun _ => ?_) (fun z => absurd z (by omega))
    have hn0 : ¬ nI n = 0 := nI_ne0 h0 (by omega)
    have hwho : tp_md ((xs (nI k).toNatClampNeg >>> ((6 : Int32) &&& 31)) &&& 255) n < n := tp_md_lt _ h0
    refine ⟨vp_in_nI hk (by omega), hn0, nm_r (tp_md_rem (tp_b8 _) h0 hn) ?_⟩
    generalize tp_md ((xs (nI k).toNatClampNeg >>> ((6 : Int32) &&& 31)) &&& 255) n = c at hwho ⊢
    have hc0 : h c = 0 := hh c (by omega)
    have hmono : ∀ x, x < n → tp_tr Q (tp_g Q h tm (c + 1)) n x = true → tp_tr Q (tp_g Q h tm 0) n x = true := fun x _ hx => tp_tr_mono Q hn h0 (tp_g_less Q h tm c) hx
    have hsplit := tp_ct_split (tp_tr Q (tp_g Q h tm 0) n) (tp_tr Q (tp_g Q h tm (c + 1)) n) n hmono
    have hself : ∀ t', tp_tr Q (tp_g Q (upd h c 1) t' 0) n c = false := by
      intro t'
      rw [tp_held]
      exact tp_tr_bad Q _ n (tp_g_self Q h t' c)
    have hdep : nI (tp_ct (tp_tr Q (tp_g Q (upd h c 1) tm 0) n) n) = nI (tp_ct (tp_tr Q (tp_g Q h tm 0) n) n) - nI (tp_ct (fun x => tp_tr Q (tp_g Q h tm 0) n x && !tp_tr Q (tp_g Q h tm (c + 1)) n x) n) := by
      rw [tp_held, pk_sub (by omega)]
      exact congrArg nI (by omega)
    have hback : ∀ x, h x = 0 → upd (upd h x 1) x 0 = h := fun x hx => tp_uu h x 1 0 hx.symm
    refine wq_depending ⟨_, _, _, _, _, _, _, _, _, _, _, _, rfl⟩ h0 hn hset hwho ht ?_
    rintro u ⟨S, r, t, w, pl, b11, b12, b13, b14, b15, b16, b17, rfl⟩
    refine wq_narrow ⟨_, _, _, _, _, _, _, _, _, _, _, _, rfl⟩ h0 hn hset hwho ht ?_
    rintro v u ⟨S, r, t, w, pl, b11, b12, b13, b14, b15, b16, b17, rfl⟩ hv _
    refine wq_count ⟨_, _, _, _, _, _, _, _, _, _, _, _, rfl⟩ h0 hn hset ht ?_
    rintro u ⟨S, r, t, w, pl, b11, b12, b13, b14, b15, b16, b17, rfl⟩
    refine br_t rfl (wq_hold (b := true) ⟨_, _, _, _, _, _, _, _, _, _, _, _, rfl⟩ hn hwho ?_)
    rintro u ⟨S, r, t, w, pl, b11, b12, b13, b14, b15, b16, b17, rfl⟩
    refine br_t (if_pos hc0) (wq_trusted (h := upd h c 1) ⟨_, _, _, _, _, _, _, _, _, _, _, _, rfl⟩ h0 hn hset hwho ht ?_)
    rintro u ⟨S, r, t, w, pl, b11, b12, b13, b14, b15, b16, b17, rfl⟩
    refine br_t (tp_i0 (hself tm)) (wq_trusted (h := upd h c 1) (tm := 100) ⟨_, _, _, _, _, _, _, _, _, _, _, _, rfl⟩ h0 hn hset hwho (by omega) ?_)
    rintro u ⟨S, r, t, w, pl, b11, b12, b13, b14, b15, b16, b17, rfl⟩
    refine br_t (tp_i0 (hself 100)) (wq_count (h := upd h c 1) ⟨_, _, _, _, _, _, _, _, _, _, _, _, rfl⟩ h0 hn hset ht ?_)
    rintro u ⟨S, r, t, w, pl, b11, b12, b13, b14, b15, b16, b17, rfl⟩
    refine br_t ?_ (wq_hold (h := upd h c 1) (b := false) ⟨_, _, _, _, _, _, _, _, _, _, _, _, rfl⟩ hn hwho ?_)
    · exact hdep
    rw [show upd (upd h c 1) c (tp_i false) = h from hback c hc0]
    rintro u ⟨S, r, t, w, pl, b11, b12, b13, b14, b15, b16, b17, rfl⟩
    refine br_t ?_ (wq_count ⟨_, _, _, _, _, _, _, _, _, _, _, _, rfl⟩ h0 hn hset ht ?_)
    · rw [pk_us]
      exact if_neg (by decide)
    rintro u ⟨S, r, t, w, pl, b11, b12, b13, b14, b15, b16, b17, rfl⟩
    refine br_t rfl ?_
    rcases hv with hv | ⟨x, hx, hxc, hv, hxt⟩
    · rw [hv]
      exact br_t (by decide) (nm_r (nI_1 k) (H (nI n, S, r, t, w, pl, Q 1, Q 2, Q 3, Q 4, Q 5, Q 6, Q 7, Q 8, h, Q 10, b11, b12, b13, b14, b15, b16, b17) ⟨_, _, _, _, _, _, _, _, _, _, _, _, rfl⟩))
    · have hx0 : h x = 0 := hh x (by omega)
      rw [hv]
      refine br_f (nI_pos (by omega)) (wq_hold (b := true) ⟨_, _, _, _, _, _, _, _, _, _, _, _, rfl⟩ hn hx ?_)
      rintro u ⟨S, r, t, w, pl, b11, b12, b13, b14, b15, b16, b17, rfl⟩
      refine br_t (if_pos hx0) (wq_trusted (h := upd h x 1) ⟨_, _, _, _, _, _, _, _, _, _, _, _, rfl⟩ h0 hn hset hwho ht ?_)
      rintro u ⟨S, r, t, w, pl, b11, b12, b13, b14, b15, b16, b17, rfl⟩
      refine br_t (tp_i0 (by rw [tp_held]; exact hxt)) (wq_hold (h := upd h x 1) (b := false) ⟨_, _, _, _, _, _, _, _, _, _, _, _, rfl⟩ hn hx ?_)
      rw [show upd (upd h x 1) x (tp_i false) = h from hback x hx0]
      rintro u ⟨S, r, t, w, pl, b11, b12, b13, b14, b15, b16, b17, rfl⟩
      refine br_t ?_ (nm_r (nI_1 k) (H (nI n, S, r, t, w, pl, Q 1, Q 2, Q 3, Q 4, Q 5, Q 6, Q 7, Q 8, h, Q 10, b11, b12, b13, b14, b15, b16, b17) ⟨_, _, _, _, _, _, _, _, _, _, _, _, rfl⟩))
      rw [pk_us]
      exact if_neg (by decide)
  · rintro fu i u hi ⟨S, r, t, w, pl, b11, b12, b13, b14, b15, b16, b17, rfl⟩ hw
    refine pk_le n i (fun z => absurd z (by omega)) (fun _ => ?_)
    refine wp_path hL ⟨_, _, _, _, _, _, _, _, _, _, _, _, rfl⟩ h0 hn hset hQ hi ht ?_
    rintro u ⟨S, r, t, w, pl, b11, b12, b13, b14, b15, b16, b17, rfl⟩
    refine br_f (by decide) (wq_trusted ⟨_, _, _, _, _, _, _, _, _, _, _, _, rfl⟩ h0 hn hset hi ht ?_)
    rintro u ⟨S, r, t, w, pl, b11, b12, b13, b14, b15, b16, b17, rfl⟩
    refine nm_r ?_ (nm_r (nI_1 i) (hw (nI n, S, r, t, w, pl, Q 1, Q 2, Q 3, Q 4, Q 5, Q 6, Q 7, Q 8, h, Q 10, b11, b12, b13, b14, b15, b16, b17) ⟨_, _, _, _, _, _, _, _, _, _, _, _, rfl⟩))
    show _ = nI (tp_ct (tp_tr Q (tp_g Q h tm 0) n) i + (if tp_tr Q (tp_g Q h tm 0) n i = true then 1 else 0))
    cases hb : tp_tr Q (tp_g Q h tm 0) n i
    · exact nI_add _ 0
    · exact nI_1 _
theorem wl_50 {u : St1} (hL : L ≤ 260) (hu : tp_U n Q h u) (h0 : 0 < n) (hn : n ≤ 10) (hset : tp_set Q) (hQ : tp_Q L xs n Q) (hh : ∀ c, c < 12 → h c = 0) (H : post 1) : ∃ fu, wL_law_50 post L xs (nI n) kc ks fu 23 u.1 u.2.1 u.2.2.1 u.2.2.2.1 u.2.2.2.2.1 u.2.2.2.2.2.1 u.2.2.2.2.2.2.1 u.2.2.2.2.2.2.2.1 u.2.2.2.2.2.2.2.2.1 u.2.2.2.2.2.2.2.2.2.1 u.2.2.2.2.2.2.2.2.2.2.1 u.2.2.2.2.2.2.2.2.2.2.2.1 u.2.2.2.2.2.2.2.2.2.2.2.2.1 u.2.2.2.2.2.2.2.2.2.2.2.2.2.1 u.2.2.2.2.2.2.2.2.2.2.2.2.2.2.1 u.2.2.2.2.2.2.2.2.2.2.2.2.2.2.2.1 u.2.2.2.2.2.2.2.2.2.2.2.2.2.2.2.2.1 u.2.2.2.2.2.2.2.2.2.2.2.2.2.2.2.2.2.1 u.2.2.2.2.2.2.2.2.2.2.2.2.2.2.2.2.2.2.1 u.2.2.2.2.2.2.2.2.2.2.2.2.2.2.2.2.2.2.2.1 u.2.2.2.2.2.2.2.2.2.2.2.2.2.2.2.2.2.2.2.2.1 u.2.2.2.2.2.2.2.2.2.2.2.2.2.2.2.2.2.2.2.2.2.1 u.2.2.2.2.2.2.2.2.2.2.2.2.2.2.2.2.2.2.2.2.2.2 := by
  refine pk_loop (fun fu k (u : St1) => wL_law_50 post L xs (nI n) kc ks fu (nI k) u.1 u.2.1 u.2.2.1 u.2.2.2.1 u.2.2.2.2.1 u.2.2.2.2.2.1 u.2.2.2.2.2.2.1 u.2.2.2.2.2.2.2.1 u.2.2.2.2.2.2.2.2.1 u.2.2.2.2.2.2.2.2.2.1 u.2.2.2.2.2.2.2.2.2.2.1 u.2.2.2.2.2.2.2.2.2.2.2.1 u.2.2.2.2.2.2.2.2.2.2.2.2.1 u.2.2.2.2.2.2.2.2.2.2.2.2.2.1 u.2.2.2.2.2.2.2.2.2.2.2.2.2.2.1 u.2.2.2.2.2.2.2.2.2.2.2.2.2.2.2.1 u.2.2.2.2.2.2.2.2.2.2.2.2.2.2.2.2.1 u.2.2.2.2.2.2.2.2.2.2.2.2.2.2.2.2.2.1 u.2.2.2.2.2.2.2.2.2.2.2.2.2.2.2.2.2.2.1 u.2.2.2.2.2.2.2.2.2.2.2.2.2.2.2.2.2.2.2.1 u.2.2.2.2.2.2.2.2.2.2.2.2.2.2.2.2.2.2.2.2.1 u.2.2.2.2.2.2.2.2.2.2.2.2.2.2.2.2.2.2.2.2.2.1 u.2.2.2.2.2.2.2.2.2.2.2.2.2.2.2.2.2.2.2.2.2.2) (fun k u => tp_U n Q h u ∧ 23 ≤ k) (max 23 (min L 29)) 23 u (by omega) ⟨hu, by omega⟩ ?_ ?_
  · rintro fu u ⟨hu, _⟩
    refine pk_le L (max 23 (min L 29)) (fun _ => wl_275 hu h0 hn hset hQ H) (fun z => pk_le 29 (max 23 (min L 29)) (fun _ => wl_275 hu h0 hn hset hQ H) (fun z' => absurd z' (by omega)))
  · rintro fu k u hk ⟨hu, hk23⟩ hw
    refine pk_le L k (fun z => absurd z (by omega)) (fun z => pk_le 29 k (fun z' => absurd z' (by omega)) (fun _ => ⟨vp_in_nI z (by omega), ?_⟩))
    obtain ⟨tm, htm, e⟩ := pk_andE (xs (nI k).toNatClampNeg) (m := 63) 6 (by decide)
    have htm : tm < 64 := htm
    refine nm_r e ?_
    exact wl_76 hL hu h0 hn hset hQ hh z (by omega) (fun u hu => hw u ⟨hu, by omega⟩)
theorem wl_17 {u : St1} (hL : L ≤ 260) (hu : tp_U n Q h u) (h0 : 0 < n) (hn : n ≤ 10) (hset : tp_set Q) (hQ : tp_Q L xs n Q) (hh : ∀ c, c < 12 → h c = 0) (H : post 1) : ∃ fu, wL_law_17 post L xs kc ks fu 0 0 u.1 u.2.1 u.2.2.1 u.2.2.2.1 u.2.2.2.2.1 u.2.2.2.2.2.1 u.2.2.2.2.2.2.1 u.2.2.2.2.2.2.2.1 u.2.2.2.2.2.2.2.2.1 u.2.2.2.2.2.2.2.2.2.1 u.2.2.2.2.2.2.2.2.2.2.1 u.2.2.2.2.2.2.2.2.2.2.2.1 u.2.2.2.2.2.2.2.2.2.2.2.2.1 u.2.2.2.2.2.2.2.2.2.2.2.2.2.1 u.2.2.2.2.2.2.2.2.2.2.2.2.2.2.1 u.2.2.2.2.2.2.2.2.2.2.2.2.2.2.2.1 u.2.2.2.2.2.2.2.2.2.2.2.2.2.2.2.2.1 u.2.2.2.2.2.2.2.2.2.2.2.2.2.2.2.2.2.1 u.2.2.2.2.2.2.2.2.2.2.2.2.2.2.2.2.2.2.1 u.2.2.2.2.2.2.2.2.2.2.2.2.2.2.2.2.2.2.2.1 u.2.2.2.2.2.2.2.2.2.2.2.2.2.2.2.2.2.2.2.2.1 u.2.2.2.2.2.2.2.2.2.2.2.2.2.2.2.2.2.2.2.2.2.1 u.2.2.2.2.2.2.2.2.2.2.2.2.2.2.2.2.2.2.2.2.2.2 := by
  have hz : nI (min 0 n) = 0 := by
    rw [Nat.zero_min]
    rfl
  have key : ∃ fu, wL_law_17 post L xs kc ks fu (nI (min 0 n)) (nI 0) u.1 u.2.1 u.2.2.1 u.2.2.2.1 u.2.2.2.2.1 u.2.2.2.2.2.1 u.2.2.2.2.2.2.1 u.2.2.2.2.2.2.2.1 u.2.2.2.2.2.2.2.2.1 u.2.2.2.2.2.2.2.2.2.1 u.2.2.2.2.2.2.2.2.2.2.1 u.2.2.2.2.2.2.2.2.2.2.2.1 u.2.2.2.2.2.2.2.2.2.2.2.2.1 u.2.2.2.2.2.2.2.2.2.2.2.2.2.1 u.2.2.2.2.2.2.2.2.2.2.2.2.2.2.1 u.2.2.2.2.2.2.2.2.2.2.2.2.2.2.2.1 u.2.2.2.2.2.2.2.2.2.2.2.2.2.2.2.2.1 u.2.2.2.2.2.2.2.2.2.2.2.2.2.2.2.2.2.1 u.2.2.2.2.2.2.2.2.2.2.2.2.2.2.2.2.2.2.1 u.2.2.2.2.2.2.2.2.2.2.2.2.2.2.2.2.2.2.2.1 u.2.2.2.2.2.2.2.2.2.2.2.2.2.2.2.2.2.2.2.2.1 u.2.2.2.2.2.2.2.2.2.2.2.2.2.2.2.2.2.2.2.2.2.1 u.2.2.2.2.2.2.2.2.2.2.2.2.2.2.2.2.2.2.2.2.2.2 := by
    refine pk_loop (fun fu i (u : St1) => wL_law_17 post L xs kc ks fu (nI (min i n)) (nI i) u.1 u.2.1 u.2.2.1 u.2.2.2.1 u.2.2.2.2.1 u.2.2.2.2.2.1 u.2.2.2.2.2.2.1 u.2.2.2.2.2.2.2.1 u.2.2.2.2.2.2.2.2.1 u.2.2.2.2.2.2.2.2.2.1 u.2.2.2.2.2.2.2.2.2.2.1 u.2.2.2.2.2.2.2.2.2.2.2.1 u.2.2.2.2.2.2.2.2.2.2.2.2.1 u.2.2.2.2.2.2.2.2.2.2.2.2.2.1 u.2.2.2.2.2.2.2.2.2.2.2.2.2.2.1 u.2.2.2.2.2.2.2.2.2.2.2.2.2.2.2.1 u.2.2.2.2.2.2.2.2.2.2.2.2.2.2.2.2.1 u.2.2.2.2.2.2.2.2.2.2.2.2.2.2.2.2.2.1 u.2.2.2.2.2.2.2.2.2.2.2.2.2.2.2.2.2.2.1 u.2.2.2.2.2.2.2.2.2.2.2.2.2.2.2.2.2.2.2.1 u.2.2.2.2.2.2.2.2.2.2.2.2.2.2.2.2.2.2.2.2.1 u.2.2.2.2.2.2.2.2.2.2.2.2.2.2.2.2.2.2.2.2.2.1 u.2.2.2.2.2.2.2.2.2.2.2.2.2.2.2.2.2.2.2.2.2.2) (fun _ u => tp_U n Q h u) 12 0 u (by omega) hu ?_ ?_
    · intro fu u hu
      refine pk_le 12 12 (fun _ => ?_) (fun z => absurd z (by omega))
      rw [show min 12 n = n by omega]
      exact wl_50 hL hu h0 hn hset hQ hh H
    · rintro fu i u hi ⟨S, r, t, w, pl, b11, b12, b13, b14, b15, b16, b17, rfl⟩ hw
      refine pk_le 12 i (fun z => absurd z (by omega)) (fun _ => ?_)
      by_cases hin : i < n
      · rw [show min (i + 1) n = i + 1 by omega] at hw
        refine wq_trusted (tm := 0) ⟨_, _, _, _, _, _, _, _, _, _, _, _, rfl⟩ h0 hn hset hin (by omega) ?_
        rintro u ⟨S, r, t, w, pl, b11, b12, b13, b14, b15, b16, b17, rfl⟩
        refine br_f ?_ (nm_r (nI_1 i) (nm_r (nI_1 i) (hw (nI n, S, r, t, w, pl, Q 1, Q 2, Q 3, Q 4, Q 5, Q 6, Q 7, Q 8, h, Q 10, b11, b12, b13, b14, b15, b16, b17) ⟨_, _, _, _, _, _, _, _, _, _, _, _, rfl⟩)))
        cases tp_tr Q (tp_g Q h 0 0) n i <;> decide
      · rw [show min (i + 1) n = min i n by omega] at hw
        refine wq_ntrusted (c := i) ⟨_, _, _, _, _, _, _, _, _, _, _, _, rfl⟩ (by omega) hi ?_
        rintro u ⟨S, r, t, w, pl, b11, b12, b13, b14, b15, b16, b17, rfl⟩
        exact br_t rfl (nm_r (nI_1 i) (hw (nI n, S, r, t, w, pl, Q 1, Q 2, Q 3, Q 4, Q 5, Q 6, Q 7, Q 8, h, Q 10, b11, b12, b13, b14, b15, b16, b17) ⟨_, _, _, _, _, _, _, _, _, _, _, _, rfl⟩))
  obtain ⟨fu, hfu⟩ := key
  rw [hz] at hfu
  exact ⟨fu, hfu⟩
end
theorem i_vc (xs : Nat → Int32) (L : Nat) (hL : L ≤ 260) : wpL_law (fun r => r = 1) L xs := by
  refine ⟨17, 5292, by decide, by decide, wm_init (fun a10 ha => ?_)⟩
  refine wm_all hL ha (fun u n Q h hu hF => ?_)
  have hM := tp_Me (tp_cell L xs 0)
  have hn := hF.1
  have hQ : tp_Q L xs n Q := ⟨hF.2.1.1, hF.2.2⟩
  have key := wl_17 (post := fun r => r = 1) (kc := 1 + 17) (ks := 23 + 5292) (u := u) hL hu (by omega) (by omega) hF.2.1.2.1 hQ hF.2.1.2.2 rfl
  obtain ⟨S, r, t, w, pl, b11, b12, b13, b14, b15, b16, b17, rfl⟩ := hu
  exact key
end
