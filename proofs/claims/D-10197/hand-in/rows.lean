section
/-! bits of a long and of an int -/
def dt_b (w : Int64) (r : Nat) : Prop := w.toBitVec.getLsbD r = true
def dt_c (x : Int32) (r : Nat) : Prop := x.toBitVec.getLsbD r = true
theorem dt_cu : ∀ k, k < 64 → ((nI k).toInt64.toUInt64 &&& Int64.toUInt64 63).toNat = k := by decide +kernel
theorem dt_tp : ∀ k, k < 64 → ((1 : Int64) <<< ((nI k).toInt64 &&& 63)).toBitVec = BitVec.twoPow 64 k := by decide +kernel
theorem dt_tp32 : ∀ k, k < 32 → ((1 : Int32) <<< (nI k &&& 31)).toBitVec = BitVec.twoPow 32 k := by decide +kernel
theorem dt_sl : ∀ n, n < 32 → ((nI n &&& 31).toBitVec.smod 32).toNat = n := by decide +kernel
theorem dt_bit (w : Int64) {r : Nat} (hr : r < 64) : ((w.toUInt64 >>> ((nI r).toInt64.toUInt64 &&& Int64.toUInt64 63)).toInt64 &&& 1) = 1 ↔ dt_b w r := by
  have e : (w.toUInt64 >>> ((nI r).toInt64.toUInt64 &&& Int64.toUInt64 63)).toInt64.toBitVec = w.toBitVec >>> r := by
    apply BitVec.eq_of_toNat_eq
    show (w.toUInt64 >>> ((nI r).toInt64.toUInt64 &&& Int64.toUInt64 63)).toNat = _
    rw [UInt64.toNat_shiftRight, dt_cu r hr, Nat.mod_eq_of_lt hr, BitVec.toNat_ushiftRight]
    rfl
  rw [← Int64.toBitVec_inj, Int64.toBitVec_and, e]
  show w.toBitVec >>> r &&& 1#64 = 1#64 ↔ w.toBitVec.getLsbD r = true
  constructor
  · intro h
    have t := congrArg (fun x => x.getLsbD 0) h
    simpa using t
  · intro h
    apply BitVec.eq_of_getLsbD_eq
    intro i hi
    cases i with
    | zero => simp [h]
    | succ i => simp
theorem dt_bor (w v : Int64) (j : Nat) : dt_b (w ||| v) j ↔ dt_b w j ∨ dt_b v j := by
  unfold dt_b
  rw [Int64.toBitVec_or, BitVec.getLsbD_or, Bool.or_eq_true]
theorem dt_b1 {r : Nat} (hr : r < 64) (j : Nat) : dt_b ((1 : Int64) <<< ((nI r).toInt64 &&& 63)) j ↔ j = r := by
  unfold dt_b
  rw [dt_tp r hr, BitVec.getLsbD_twoPow]
  simp only [hr, decide_true, Bool.true_and, decide_eq_true_eq]
  exact ⟨fun h => h.symm, fun h => h.symm⟩
theorem dt_bset (w : Int64) {r : Nat} (hr : r < 64) (j : Nat) : dt_b (w ||| ((1 : Int64) <<< ((nI r).toInt64 &&& 63))) j ↔ dt_b w j ∨ j = r := by
  rw [dt_bor, dt_b1 hr]
theorem dt_b0 (j : Nat) : ¬ dt_b 0 j := by
  unfold dt_b
  rw [show (0 : Int64).toBitVec = 0#64 from rfl, BitVec.getLsbD_zero]
  exact Bool.false_ne_true
theorem dt_cbit (x : Int32) {r : Nat} (hr : r < 32) : ((x >>> (nI r &&& 31)) &&& 1) = 1 ↔ dt_c x r := by
  have e : (x >>> (nI r &&& 31)).toBitVec = x.toBitVec.sshiftRight r := by
    rw [Int32.toBitVec_shiftRight]
    show x.toBitVec.sshiftRight ((nI r &&& 31).toBitVec.smod 32).toNat = _
    rw [dt_sl r hr]
  rw [← Int32.toBitVec_inj, Int32.toBitVec_and, e]
  show x.toBitVec.sshiftRight r &&& 1#32 = 1#32 ↔ x.toBitVec.getLsbD r = true
  constructor
  · intro h
    have t : (x.toBitVec.sshiftRight r &&& 1#32).getLsbD 0 = (1#32).getLsbD 0 := by rw [h]
    rw [BitVec.getLsbD_and, BitVec.getLsbD_sshiftRight] at t
    simpa [hr] using t
  · intro h
    apply BitVec.eq_of_getLsbD_eq
    intro i hi
    cases i with
    | zero => simp [BitVec.getLsbD_sshiftRight, hr, h]
    | succ i => simp
theorem dt_cset (x : Int32) {r : Nat} (hr : r < 32) (j : Nat) : dt_c (x ||| ((1 : Int32) <<< (nI r &&& 31))) j ↔ dt_c x j ∨ j = r := by
  unfold dt_c
  rw [Int32.toBitVec_or, BitVec.getLsbD_or, Bool.or_eq_true, dt_tp32 r hr, BitVec.getLsbD_twoPow]
  simp only [hr, decide_true, Bool.true_and, decide_eq_true_eq]
  exact ⟨fun h => h.elim Or.inl (fun z => Or.inr z.symm), fun h => h.elim Or.inl (fun z => Or.inr z.symm)⟩
theorem dt_c0 (j : Nat) : ¬ dt_c 0 j := by
  unfold dt_c
  rw [show (0 : Int32).toBitVec = 0#32 from rfl, BitVec.getLsbD_zero]
  exact Bool.false_ne_true
end
section
/-! the order of the leaves, lists, the invariant -/
def dt_w (a3 a4 a5 : Nat → Int32) (a b : Nat) : Prop :=
  (a5 a).toInt < (a5 b).toInt ∨ ((a5 a).toInt = (a5 b).toInt ∧ ((a3 b).toInt < (a3 a).toInt ∨ ((a3 a).toInt = (a3 b).toInt ∧ ((a4 b).toInt < (a4 a).toInt ∨ ((a4 a).toInt = (a4 b).toInt ∧ b < a)))))
theorem dt_irr (a3 a4 a5 : Nat → Int32) (a : Nat) : ¬ dt_w a3 a4 a5 a a := by
  unfold dt_w
  omega
theorem dt_tr (a3 a4 a5 : Nat → Int32) (a b c : Nat) : dt_w a3 a4 a5 a b → dt_w a3 a4 a5 b c → dt_w a3 a4 a5 a c := by
  unfold dt_w
  generalize (a5 a).toInt = x1, (a5 b).toInt = y1, (a5 c).toInt = z1, (a3 a).toInt = x2, (a3 b).toInt = y2, (a3 c).toInt = z2, (a4 a).toInt = x3, (a4 b).toInt = y3, (a4 c).toInt = z3
  omega
theorem dt_tot (a3 a4 a5 : Nat → Int32) (a b : Nat) (h : a ≠ b) : dt_w a3 a4 a5 a b ∨ dt_w a3 a4 a5 b a := by
  unfold dt_w
  generalize (a5 a).toInt = x1, (a5 b).toInt = y1, (a3 a).toInt = x2, (a3 b).toInt = y2, (a4 a).toInt = x3, (a4 b).toInt = y3
  omega
theorem dt_uniq {W : Nat → Nat → Prop} (irr : ∀ a, ¬ W a a) (tr : ∀ a b c, W a b → W b c → W a c) (xs : List Nat) :
    ∀ ys : List Nat, xs.Pairwise W → ys.Pairwise W → (∀ r, r ∈ xs ↔ r ∈ ys) → xs = ys := by
  induction xs with
  | nil =>
    intro ys _ _ h
    cases ys with
    | nil => rfl
    | cons y ys => exact absurd ((h y).mpr List.mem_cons_self) List.not_mem_nil
  | cons x xs ih =>
    intro ys hx hy h
    cases ys with
    | nil => exact absurd ((h x).mp List.mem_cons_self) List.not_mem_nil
    | cons y ys =>
      rw [List.pairwise_cons] at hx hy
      have exy : x = y := by
        rcases List.mem_cons.mp ((h x).mp List.mem_cons_self) with e | m
        · exact e
        · rcases List.mem_cons.mp ((h y).mpr List.mem_cons_self) with e | m'
          · exact e.symm
          · exact absurd (tr _ _ _ (hx.1 y m') (hy.1 x m)) (irr x)
      subst exy
      have ht : xs = ys := by
        refine ih ys hx.2 hy.2 (fun r => ⟨fun m => ?_, fun m => ?_⟩)
        · rcases List.mem_cons.mp ((h r).mp (List.mem_cons_of_mem _ m)) with e | m'
          · rw [e] at m
            exact absurd (hx.1 x m) (irr x)
          · exact m'
        · rcases List.mem_cons.mp ((h r).mpr (List.mem_cons_of_mem _ m)) with e | m'
          · rw [e] at m
            exact absurd (hy.1 x m) (irr x)
          · exact m'
      rw [ht]
theorem dt_nodup {W : Nat → Nat → Prop} (irr : ∀ a, ¬ W a a) {xs : List Nat} (h : xs.Pairwise W) : xs.Nodup :=
  List.Pairwise.imp (S := fun a b => a ≠ b) (fun {a b} hab (e : a = b) => irr a (by rw [← e] at hab; exact hab)) h
theorem dt_len {xs : List Nat} {n : Nat} (h : xs.Nodup) (hb : ∀ r, r ∈ xs → r < n) : xs.length ≤ n := by
  have t := List.Nodup.length_le_of_subset h (l₂ := List.range n) (fun r hr => List.mem_range.mpr (hb r hr))
  rw [List.length_range] at t
  exact t
theorem dt_len1 {xs : List Nat} {n r : Nat} (h : xs.Nodup) (hb : ∀ q, q ∈ xs → q < n) (hr : r < n) (hx : r ∉ xs) : xs.length < n := by
  have t : (r :: xs).length ≤ n := dt_len (List.nodup_cons.mpr ⟨hx, h⟩) (fun q hq => by
    rcases List.mem_cons.mp hq with e | m
    · rw [e]; exact hr
    · exact hb q m)
  rw [List.length_cons] at t
  omega
theorem dt_ins {W : Nat → Nat → Prop} (tr : ∀ a b c, W a b → W b c → W a c) (tot : ∀ a b, a ≠ b → W a b ∨ W b a) {xs : List Nat} {k r : Nat}
    (hs : xs.Pairwise W) (hr : r ∉ xs) (hk : k ≤ xs.length) (h1 : ∀ (j : Nat) (hj : j < xs.length), k ≤ j → W r xs[j])
    (h2 : ∀ (j : Nat) (hj : j < xs.length), j + 1 = k → ¬ W r xs[j]) : (xs.insertIdx k r).Pairwise W := by
  rw [List.pairwise_iff_getElem] at hs ⊢
  intro i j hi hj hij
  have hL : (xs.insertIdx k r).length = xs.length + 1 := List.length_insertIdx_of_le_length hk r
  have hlast : ∀ (i : Nat) (hi : i < xs.length), i < k → W xs[i] r := by
    intro p hp hpk
    obtain ⟨m, em⟩ : ∃ m, k = m + 1 := ⟨k - 1, by omega⟩
    have hm : m < xs.length := by omega
    have hw : W xs[m] r := by
      rcases tot r xs[m] (fun e => hr (by rw [e]; exact List.getElem_mem hm)) with z | z
      · exact absurd z (h2 m hm em.symm)
      · exact z
    rcases Nat.lt_or_ge p m with z | z
    · exact tr _ _ _ (hs p m hp hm z) hw
    · have e : p = m := by omega
      subst e
      exact hw
  rcases Nat.lt_trichotomy j k with hjk | hjk | hjk
  · rw [List.getElem_insertIdx_of_lt (Nat.lt_trans hij hjk) hi, List.getElem_insertIdx_of_lt hjk hj]
    exact hs i j (by omega) (by omega) hij
  · subst hjk
    rw [List.getElem_insertIdx_of_lt hij hi, List.getElem_insertIdx_self hj]
    exact hlast i (by omega) hij
  · rw [List.getElem_insertIdx_of_gt hjk hj]
    rcases Nat.lt_trichotomy i k with hik | hik | hik
    · rw [List.getElem_insertIdx_of_lt hik hi]
      exact hs i (j - 1) (by omega) (by omega) (by omega)
    · subst hik
      rw [List.getElem_insertIdx_self hi]
      exact h1 (j - 1) (by omega) (by omega)
    · rw [List.getElem_insertIdx_of_gt hik hi]
      exact hs (i - 1) (j - 1) (by omega) (by omega) (by omega)
/-- how many leaves that are no deletions stand at the head of the list -/
def dt_o (a5 : Nat → Int32) : List Nat → Nat
  | [] => 0
  | x :: xs => if a5 x = 0 then dt_o a5 xs + 1 else 0
theorem dt_o_t {a5 : Nat → Int32} {x : Nat} {xs : List Nat} (h : a5 x = 0) : dt_o a5 (x :: xs) = dt_o a5 xs + 1 := if_pos h
theorem dt_o_f {a5 : Nat → Int32} {x : Nat} {xs : List Nat} (h : ¬ a5 x = 0) : dt_o a5 (x :: xs) = 0 := if_neg h
theorem dt_o_le (a5 : Nat → Int32) (xs : List Nat) : dt_o a5 xs ≤ xs.length := by
  induction xs with
  | nil => exact Nat.le_refl 0
  | cons x xs ih =>
    rw [List.length_cons]
    by_cases h : a5 x = 0
    · rw [dt_o_t h]; omega
    · rw [dt_o_f h]; omega
theorem dt_o_lo (a5 : Nat → Int32) (xs : List Nat) : ∀ (j : Nat) (h : j < xs.length), j < dt_o a5 xs → a5 xs[j] = 0 := by
  induction xs with
  | nil => intro j h; exact absurd h (Nat.not_lt_zero j)
  | cons x xs ih =>
    intro j h hj
    by_cases hx : a5 x = 0
    · rw [dt_o_t hx] at hj
      cases j with
      | zero => exact hx
      | succ j => exact ih j (by rw [List.length_cons] at h; omega) (by omega)
    · rw [dt_o_f hx] at hj
      omega
theorem dt_o_hi (a5 : Nat → Int32) (xs : List Nat) : ∀ (k : Nat) (h : k < xs.length), k = dt_o a5 xs → ¬ a5 xs[k] = 0 := by
  induction xs with
  | nil => intro j h; exact absurd h (Nat.not_lt_zero j)
  | cons x xs ih =>
    intro k h hk
    by_cases hx : a5 x = 0
    · rw [dt_o_t hx] at hk
      subst hk
      exact ih _ (by rw [List.length_cons] at h; omega) rfl
    · rw [dt_o_f hx] at hk
      subst hk
      exact hx
theorem dt_o_cg {a5 b5 : Nat → Int32} (xs : List Nat) : (∀ r, r ∈ xs → a5 r = b5 r) → dt_o a5 xs = dt_o b5 xs := by
  induction xs with
  | nil => intro _; rfl
  | cons x xs ih =>
    intro h
    have e := ih (fun r hr => h r (List.mem_cons_of_mem _ hr))
    have ex := h x List.mem_cons_self
    by_cases hx : a5 x = 0
    · rw [dt_o_t hx, dt_o_t (by rw [← ex]; exact hx), e]
    · rw [dt_o_f hx, dt_o_f (by rw [← ex]; exact hx)]
theorem dt_o_all {a5 : Nat → Int32} (xs : List Nat) : xs.Pairwise (fun a b => a5 b = 0 → a5 a = 0) → ∀ r, r ∈ xs → a5 r = 0 → r ∈ xs.take (dt_o a5 xs) := by
  induction xs with
  | nil => intro _ r hr; exact absurd hr List.not_mem_nil
  | cons x xs ih =>
    intro hp r hr h0
    rw [List.pairwise_cons] at hp
    have hx : a5 x = 0 := by
      rcases List.mem_cons.mp hr with e | m
      · rw [← e]; exact h0
      · exact hp.1 r m h0
    rw [dt_o_t hx, List.take_succ_cons]
    rcases List.mem_cons.mp hr with e | m
    · rw [e]; exact List.mem_cons_self
    · exact List.mem_cons_of_mem _ (ih hp.2 r m h0)
theorem dt_o_mem {a5 : Nat → Int32} (xs : List Nat) : ∀ r, r ∈ xs.take (dt_o a5 xs) → a5 r = 0 := by
  intro r hr
  obtain ⟨j, hj, e⟩ := List.getElem_of_mem hr
  rw [List.getElem_take] at e
  rw [List.length_take] at hj
  rw [← e]
  exact dt_o_lo a5 xs j (by omega) (by omega)
theorem dt_o_put {a5 : Nat → Int32} {ys t : List Nat} {q : Nat} (ny : ys.Nodup) (hm : ∀ r, r ∈ ys → r = q ∨ r ∈ t) (st : t.Pairwise (fun a b => a5 b = 0 → a5 a = 0)) : dt_o a5 ys ≤ dt_o a5 t + 1 := by
  have h1 : (ys.take (dt_o a5 ys)).length ≤ (q :: t.take (dt_o a5 t)).length := by
    refine List.Nodup.length_le_of_subset (List.Nodup.sublist (List.take_sublist _ _) ny) (fun r hr => ?_)
    rcases hm r (List.mem_of_mem_take hr) with e | m
    · rw [e]; exact List.mem_cons_self
    · exact List.mem_cons_of_mem _ (dt_o_all t st r m (dt_o_mem ys r hr))
  rw [List.length_cons, List.length_take, List.length_take] at h1
  have h2 := dt_o_le a5 ys
  omega
/-- the winner, the conflict of number j -/
def dt_qw : List Nat → Int32
  | [] => -5
  | x :: _ => nI x
def dt_qk (a5 : Nat → Int32) (xs : List Nat) (j : Nat) : Int32 := if j + 1 < dt_o a5 xs then nI (xs.getD (j + 1) 0) else -5
/-- leaves, lists, the invariant -/
def dt_L (a1 a2 : Nat → Int32) (w : Int64) (d r : Nat) : Prop := dt_b w r ∧ a1 r = nI d ∧ ∀ c, dt_b w c → ¬ a2 c = nI r
def dt_R (a9 a10 : Nat → Int32) (l : Nat) (xs : List Nat) : Prop := a9 l = nI xs.length ∧ ∀ (i : Nat) (h : i < xs.length), a10 (l * 40 + i) = nI xs[i]
def dt_S (a1 a2 a3 a4 a5 : Nat → Int32) (a6 : Nat → Int64) (a9 a10 : Nat → Int32) (s d : Nat) (xs : List Nat) : Prop :=
  xs.Pairwise (dt_w a3 a4 a5) ∧ (∀ r, r ∈ xs ↔ dt_L a1 a2 (a6 s) d r) ∧ dt_R a9 a10 (s * 4 + d) xs
def dt_K (n : Nat) (a1 a2 a5 : Nat → Int32) (a6 : Nat → Int64) : Prop :=
  n ≤ 40 ∧ (∀ r, r < n → ∃ d, d < 4 ∧ a1 r = nI d) ∧ (∀ r, r < n → a2 r < 0 ∨ ∃ p, p < r ∧ a2 r = nI p ∧ a1 p = a1 r) ∧ (∀ r, a5 r = 0 ∨ a5 r = 1) ∧
  (∀ s, s < 2 → ∀ r, dt_b (a6 s) r → r < n ∧ ∀ p, p < r → a2 r = nI p → dt_b (a6 s) p)
def dt_I (n : Nat) (a1 a2 a3 a4 a5 : Nat → Int32) (a6 : Nat → Int64) (a9 a10 : Nat → Int32) : Prop :=
  dt_K n a1 a2 a5 a6 ∧ ∀ s d, s < 2 → d < 4 → ∃ xs, dt_S a1 a2 a3 a4 a5 a6 a9 a10 s d xs
section
variable {n : Nat} {a1 a2 a3 a4 a5 : Nat → Int32} {a6 : Nat → Int64} {a9 a10 : Nat → Int32} {s d : Nat} {xs : List Nat}
theorem dt_S_lt (K : dt_K n a1 a2 a5 a6) (hs : s < 2) (S : dt_S a1 a2 a3 a4 a5 a6 a9 a10 s d xs) : ∀ r, r ∈ xs → r < n :=
  fun r hr => (K.2.2.2.2 s hs r ((S.2.1 r).mp hr).1).1
theorem dt_S_nd (S : dt_S a1 a2 a3 a4 a5 a6 a9 a10 s d xs) : xs.Nodup := dt_nodup (dt_irr a3 a4 a5) S.1
theorem dt_S_len (K : dt_K n a1 a2 a5 a6) (hs : s < 2) (S : dt_S a1 a2 a3 a4 a5 a6 a9 a10 s d xs) : xs.length ≤ 40 :=
  Nat.le_trans (dt_len (dt_S_nd S) (dt_S_lt K hs S)) K.1
theorem dt_S_40 (K : dt_K n a1 a2 a5 a6) (hs : s < 2) (S : dt_S a1 a2 a3 a4 a5 a6 a9 a10 s d xs) : ∀ r, r ∈ xs → r < 40 :=
  fun r hr => Nat.lt_of_lt_of_le (dt_S_lt K hs S r hr) K.1
theorem dt_neg {x : Int32} {p : Nat} (hx : x < 0) (hp : p < 2 ^ 31) : ¬ x = nI p := fun e => nI_pos hp (by rw [← e]; exact hx)
/-- the leaves that are no deletions stand first -/
theorem dt_S_op (bo : ∀ r, a5 r = 0 ∨ a5 r = 1) (h : xs.Pairwise (dt_w a3 a4 a5)) : xs.Pairwise (fun a b => a5 b = 0 → a5 a = 0) := by
  refine List.Pairwise.imp (fun {a b} hab hb => ?_) h
  rcases bo a with e | e
  · exact e
  · have h0 : (a5 b).toInt = 0 := by rw [hb]; rfl
    have h1 : (a5 a).toInt = 1 := by rw [e]; rfl
    unfold dt_w at hab
    omega
end
end
section
/-! the questions: each is a function of the list -/
theorem dt_ix (s d : Nat) : nI s * 4 + nI d = nI (s * 4 + d) := by
  show nI s * nI 4 + nI d = _
  rw [pk_mul, nI_add]
theorem dt_ix2 (l i : Nat) : nI l * 40 + nI i = nI (l * 40 + i) := by
  show nI l * nI 40 + nI i = _
  rw [pk_mul, nI_add]
theorem dt_ix0 (l : Nat) : nI l * 40 = nI (l * 40) := by
  show nI l * nI 40 = _
  rw [pk_mul]
theorem dt_site {post : Int32 → Prop} {s : Nat} (hs : s < 2) (h : post 0) : wpX_badSite post () (nI s) :=
  br_f (nI_pos (by omega)) (br_t (nI_le (b := 1) (by omega) (by decide)) h)
theorem dt_doc {post : Int32 → Prop} {d : Nat} (hd : d < 4) (h : post 0) : wpX_badDoc post () (nI d) :=
  br_f (nI_pos (by omega)) (br_t (nI_lt (b := 4) hd (by decide)) h)
section
variable {post : Int32 → Prop} {f : Int32} {a1 a2 a3 a4 a5 : Nat → Int32} {a6 a7 : Nat → Int64} {a8 a9 a10 : Nat → Int32} {n s d : Nat} {xs : List Nat}
theorem dt_winnerOf (hs : s < 2) (hd : d < 4) (R : dt_R a9 a10 (s * 4 + d) xs) (hl : xs.length ≤ 40) (h : post (dt_qw xs)) :
    wpX_winnerOf post (f, a1, a2, a3, a4, a5, a6, a7, a8, a9, a10) (nI s) (nI d) := by
  unfold wpX_winnerOf
  refine nm_r (dt_ix s d) ⟨vp_in_nI (by omega) (by omega), ?_⟩
  rw [nI_clamp (show s * 4 + d < 2 ^ 31 by omega), R.1]
  cases xs with
  | nil => exact br_t nI_0 h
  | cons x t =>
    refine br_f (nI_ne0 (Nat.succ_pos _) (by omega)) ⟨?_, ?_⟩
    · rw [dt_ix0]
      exact vp_in_nI (by omega) (by omega)
    · have e := R.2 0 (Nat.succ_pos _)
      rw [dt_ix0, nI_clamp (show (s * 4 + d) * 40 < 2 ^ 31 by omega), show (s * 4 + d) * 40 = (s * 4 + d) * 40 + 0 from rfl, e]
      exact h
theorem dt_winner (hs : s < 2) (hd : d < 4) (R : dt_R a9 a10 (s * 4 + d) xs) (hl : xs.length ≤ 40) (h : post (dt_qw xs)) :
    wpX_winner post (f, a1, a2, a3, a4, a5, a6, a7, a8, a9, a10) (nI s) (nI d) := by
  unfold wpX_winner
  exact dt_site hs (br_t rfl (dt_doc hd (br_t rfl (dt_winnerOf hs hd R hl h))))
theorem dt_open {l : Nat} (hl : l < 8) (R : dt_R a9 a10 l xs) (hm : ∀ r, r ∈ xs → r < 40) (hn : xs.length ≤ 40) (h : post (nI (dt_o a5 xs))) :
    wpX_openLeaves post (f, a1, a2, a3, a4, a5, a6, a7, a8, a9, a10) (nI l) := by
  have ho := dt_o_le a5 xs
  unfold wpX_openLeaves
  refine pk_loop (σ := Unit) (fun n i _ => wX_openLeaves_2 post (nI l) f a1 a2 a3 a4 a5 a6 a7 a8 a9 a10 n (nI i)) (fun _ _ => True) (dt_o a5 xs) 0 () (Nat.zero_le _) trivial ?_ ?_
  · intro n _ _
    show vp_in _ _ ∧ _
    refine ⟨vp_in_nI hl (by omega), ?_⟩
    rw [nI_clamp (show l < 2 ^ 31 by omega), R.1]
    refine pk_le xs.length (dt_o a5 xs) (fun _ => h) (fun z => ?_)
    have e := R.2 _ z
    have hq := hm _ (List.getElem_mem z)
    rw [dt_ix2, nI_clamp (show l * 40 + dt_o a5 xs < 2 ^ 31 by omega), e, nI_clamp (Nat.lt_trans hq (by decide))]
    exact ⟨vp_in_nI (by omega) (by omega), vp_in_nI hq (by omega), br_f (dt_o_hi a5 xs _ z rfl) h⟩
  · intro n i _ hi _ hw
    show vp_in _ _ ∧ _
    refine ⟨vp_in_nI hl (by omega), ?_⟩
    rw [nI_clamp (show l < 2 ^ 31 by omega), R.1]
    refine pk_le xs.length i (fun z => absurd z (by omega)) (fun z => ?_)
    have e := R.2 _ z
    have hq := hm _ (List.getElem_mem z)
    rw [dt_ix2, nI_clamp (show l * 40 + i < 2 ^ 31 by omega), e, nI_clamp (Nat.lt_trans hq (by decide))]
    exact ⟨vp_in_nI (by omega) (by omega), vp_in_nI hq (by omega), br_t (dt_o_lo a5 xs i z hi) (nm_r (nI_1 i) (hw () trivial))⟩
theorem dt_conflicts (hs : s < 2) (hd : d < 4) (R : dt_R a9 a10 (s * 4 + d) xs) (hm : ∀ r, r ∈ xs → r < 40) (hn : xs.length ≤ 40) (h : post (nI (dt_o a5 xs - 1))) :
    wpX_conflicts post (f, a1, a2, a3, a4, a5, a6, a7, a8, a9, a10) (nI s) (nI d) := by
  have ho := dt_o_le a5 xs
  unfold wpX_conflicts
  refine dt_site hs (br_t rfl (dt_doc hd (br_t rfl ?_)))
  rw [dt_ix]
  refine dt_open (by omega) R hm hn ?_
  refine pk_le (dt_o a5 xs) 1 (fun z => ?_) (fun z => ?_)
  · rw [show dt_o a5 xs - 1 = 0 by omega] at h
    exact h
  · rw [← pk_sub (show 1 ≤ dt_o a5 xs by omega)] at h
    exact h
theorem dt_leaves (hs : s < 2) (hd : d < 4) (R : dt_R a9 a10 (s * 4 + d) xs) (h : post (nI xs.length)) :
    wpX_leaves post (f, a1, a2, a3, a4, a5, a6, a7, a8, a9, a10) (nI s) (nI d) := by
  unfold wpX_leaves
  refine dt_site hs (br_t rfl (dt_doc hd (br_t rfl ?_)))
  rw [dt_ix, nI_clamp (show s * 4 + d < 2 ^ 31 by omega), R.1]
  exact ⟨vp_in_nI (by omega) (by omega), h⟩
theorem dt_m1 {k : Nat} (j : Nat) (hk : k ≤ 40) (hj : j < 40) : nI j < nI k - 1 ↔ j + 1 < k := by
  have e : (nI k - 1).toInt = (k : Int) - 1 := pk_sub_toInt (a := k) (b := 1) (by omega) (by omega)
  rw [Int32.lt_iff_toInt_lt, e, nI_toInt (by omega)]
  omega
theorem dt_conflict {j : Nat} (hj : j < 40) (hs : s < 2) (hd : d < 4) (R : dt_R a9 a10 (s * 4 + d) xs) (hm : ∀ r, r ∈ xs → r < 40) (hn : xs.length ≤ 40) (h : post (dt_qk a5 xs j)) :
    wpX_conflict post (f, a1, a2, a3, a4, a5, a6, a7, a8, a9, a10) (nI s) (nI d) (nI j) := by
  have ho := dt_o_le a5 xs
  unfold wpX_conflict
  refine dt_site hs (br_t rfl (dt_doc hd (br_t rfl (nm_r (dt_ix s d) (dt_open (by omega) R hm hn ?_)))))
  refine br_f (nI_pos (by omega)) ?_
  unfold dt_qk at h
  refine ek_if (dt_m1 j (by omega) hj) (fun z => ?_) (fun z => ?_)
  · rw [if_pos z] at h
    have hz : j + 1 < xs.length := by omega
    have e := R.2 _ hz
    rw [dt_ix2, nI_1, nI_clamp (show (s * 4 + d) * 40 + j + 1 < 2 ^ 31 by omega), Nat.add_assoc, e]
    rw [List.getD_eq_getElem?_getD, List.getElem?_eq_getElem hz, Option.getD_some] at h
    exact ⟨vp_in_nI (by omega) (by omega), h⟩
  · rw [if_neg z] at h
    exact h
theorem dt_isIn {w : Int64} {x : Int32} (hn : n ≤ 40) (h0 : (∀ r, x = nI r → r < n → ¬ dt_b w r) → post 0) (h1 : ∀ r, x = nI r → r < n → dt_b w r → post 1) :
    wpX_isIn post (nI n, a1, a2, a3, a4, a5, a6, a7, a8, a9, a10) w x := by
  unfold wpX_isIn
  by_cases hx : x < 0
  · exact br_t hx (h0 (fun r er hr => absurd er (dt_neg hx (by omega))))
  · obtain ⟨j, hj, rfl⟩ := nI_of hx
    refine br_f hx (pk_le n j (fun z => h0 (fun r er hr => ?_)) (fun z => ek_if (dt_bit w (by omega)) (fun b => h1 j rfl z b) (fun b => h0 (fun r er hr => ?_))))
    · rw [nI_eq hj (by omega)] at er
      omega
    · rw [nI_eq hj (by omega)] at er
      rw [← er]
      exact b
theorem dt_isLeaf {r : Nat} (hs : s < 2) (hd : d < 4) (hr : r < 40) (ed : a1 r = nI d) (R : dt_R a9 a10 (s * 4 + d) xs) (hm : ∀ q, q ∈ xs → q < 40) (hn : xs.length ≤ 40)
    (h1 : r ∈ xs → post 1) (h0 : r ∉ xs → post 0) : wpX_isLeaf post (f, a1, a2, a3, a4, a5, a6, a7, a8, a9, a10) (nI s) (nI r) := by
  unfold wpX_isLeaf
  refine ⟨vp_in_nI hr (by omega), nm_r (e' := nI (s * 4 + d)) (by rw [nI_clamp (show r < 2 ^ 31 by omega), ed, dt_ix]) ?_⟩
  refine pk_loop (σ := Unit) (fun n i _ => wX_isLeaf_14 post (nI r) (nI (s * 4 + d)) f a1 a2 a3 a4 a5 a6 a7 a8 a9 a10 n (nI i)) (fun i _ => ∀ (j : Nat) (h : j < xs.length), j < i → ¬ xs[j] = r) xs.length 0 () (Nat.zero_le _) (fun j _ z => absurd z (Nat.not_lt_zero j)) ?_ ?_
  · intro n _ hI
    show vp_in _ _ ∧ _
    refine ⟨vp_in_nI (by omega) (by omega), ?_⟩
    rw [nI_clamp (show s * 4 + d < 2 ^ 31 by omega), R.1]
    refine pk_le xs.length xs.length (fun _ => h0 (fun m => ?_)) (fun z => absurd z (by omega))
    obtain ⟨j, hj, e⟩ := List.getElem_of_mem m
    exact hI j hj hj e
  · intro n i _ hi hI hw
    show vp_in _ _ ∧ _
    refine ⟨vp_in_nI (by omega) (by omega), ?_⟩
    rw [nI_clamp (show s * 4 + d < 2 ^ 31 by omega), R.1]
    refine pk_le xs.length i (fun z => absurd z (by omega)) (fun z => ?_)
    have e := R.2 _ z
    have hq := hm _ (List.getElem_mem z)
    rw [dt_ix2, nI_clamp (show (s * 4 + d) * 40 + i < 2 ^ 31 by omega), e]
    refine ⟨vp_in_nI (by omega) (by omega), pk_eq xs[i] r (fun g => h1 (by rw [← g]; exact List.getElem_mem z)) (fun g => nm_r (nI_1 i) (hw () (fun j hj hji => ?_))) rfl rfl (by omega) (by omega)⟩
    rcases Nat.lt_or_ge j i with y | y
    · exact hI j hj y
    · have ej : j = i := by omega
      subst ej
      exact g
theorem dt_refusal (hs : s < 2) (hd : d < 4) (hn : n ≤ 40) (h0 : n < 40 → post 0) (h3 : n = 40 → post (-3)) :
    wpX_refusal post (nI n, a1, a2, a3, a4, a5, a6, a7, a8, a9, a10) (nI s) (nI d) := by
  unfold wpX_refusal
  exact dt_site hs (br_t rfl (dt_doc hd (br_t rfl (pk_lt n 40 h0 (fun z => h3 (by omega))))))
theorem dt_hasOf {x : Int32} (hs : s < 2) (hn : n ≤ 40) (h1 : ∀ r, x = nI r → r < n → dt_b (a6 s) r → a1 r = nI d → post 1)
    (h0 : (∀ r, x = nI r → r < n → dt_b (a6 s) r → ¬ a1 r = nI d) → post 0) :
    wpX_hasOf post (nI n, a1, a2, a3, a4, a5, a6, a7, a8, a9, a10) (nI s) (nI d) x := by
  unfold wpX_hasOf
  refine ⟨vp_in_nI hs (by omega), ?_⟩
  rw [nI_clamp (show s < 2 ^ 31 by omega)]
  refine dt_isIn hn (fun g => br_t rfl (h0 (fun r er hr hb => absurd hb (g r er hr)))) (fun r er hr hb => br_f (by decide) ?_)
  rw [er, nI_clamp (show r < 2 ^ 31 by omega)]
  refine ⟨vp_in_nI (by omega) (by omega), br_c (fun g => h1 r er hr hb g) (fun g => h0 (fun q eq hq hb' g' => ?_))⟩
  rw [er, nI_eq (by omega) (by omega)] at eq
  rw [← eq] at g'
  exact g g'
theorem dt_leafOf {x : Int32} (K : dt_K n a1 a2 a5 a6) (hs : s < 2) (hd : d < 4) (S : dt_S a1 a2 a3 a4 a5 a6 a9 a10 s d xs) (h1 : ∀ r, x = nI r → r < n → r ∈ xs → post 1)
    (h0 : (∀ r, x = nI r → r < n → r ∉ xs) → post 0) :
    wpX_leafOf post (nI n, a1, a2, a3, a4, a5, a6, a7, a8, a9, a10) (nI s) (nI d) x := by
  have hn := K.1
  unfold wpX_leafOf
  refine dt_hasOf hs K.1 (fun r er hr hb ed => br_f (by decide) ?_) (fun g => br_t rfl (h0 (fun r er hr hx => ?_)))
  · rw [er]
    refine dt_isLeaf hs hd (by omega) ed S.2.2 (dt_S_40 K hs S) (dt_S_len K hs S) (fun m => br_f (by decide) (h1 r er hr m)) (fun m => br_t rfl (h0 (fun q eq hq hx => ?_)))
    rw [er, nI_eq (by omega) (by omega)] at eq
    rw [← eq] at hx
    exact m hx
  · have t := (S.2.1 r).mp hx
    exact g r er hr t.1 t.2.1
theorem dt_wins {a b : Nat} (ha : a < 40) (hb : b < 40) (bo : ∀ r, a5 r = 0 ∨ a5 r = 1) (h1 : dt_w a3 a4 a5 a b → post 1) (h0 : ¬ dt_w a3 a4 a5 a b → post 0) :
    wpX_wins post (f, a1, a2, a3, a4, a5, a6, a7, a8, a9, a10) (nI a) (nI b) := by
  have ia := vp_in_nI ha (show 40 < 2 ^ 31 by decide)
  have ib := vp_in_nI hb (show 40 < 2 ^ 31 by decide)
  unfold wpX_wins
  rw [nI_clamp (show a < 2 ^ 31 by omega), nI_clamp (show b < 2 ^ 31 by omega)]
  unfold dt_w at h1 h0
  refine ⟨ia, ib, br_c (fun e5 => ⟨ia, ib, br_c (fun e3 => ⟨ia, ib, br_c (fun e4 => ?_) (fun n4 => ⟨ia, ib, br_c (fun hle => h0 ?_) (fun hgt => h1 ?_)⟩)⟩) (fun n3 => ⟨ia, ib, br_c (fun hle => h0 ?_) (fun hgt => h1 ?_)⟩)⟩) (fun n5 => ⟨ib, ?_⟩)⟩
  · have e5' := congrArg Int32.toInt e5
    have e3' := congrArg Int32.toInt e3
    have e4' := congrArg Int32.toInt e4
    refine pk_le a b (fun z => h0 ?_) (fun z => h1 ?_)
    · omega
    · omega
  · have e5' := congrArg Int32.toInt e5
    have e3' := congrArg Int32.toInt e3
    have n4' := mt Int32.toInt_inj.mp n4
    rw [Int32.le_iff_toInt_le] at hle
    omega
  · have e5' := congrArg Int32.toInt e5
    have e3' := congrArg Int32.toInt e3
    rw [Int32.le_iff_toInt_le] at hgt
    omega
  · have e5' := congrArg Int32.toInt e5
    have n3' := mt Int32.toInt_inj.mp n3
    rw [Int32.le_iff_toInt_le] at hle
    omega
  · have e5' := congrArg Int32.toInt e5
    rw [Int32.le_iff_toInt_le] at hgt
    omega
  · have z0 : (0 : Int32).toInt = 0 := by decide
    have z1 : (1 : Int32).toInt = 1 := by decide
    rcases bo a with ea | ea
    · rcases bo b with eb | eb
      · exact absurd (ea.trans eb.symm) n5
      · rw [ea, eb, z0, z1] at h1
        rw [eb]
        exact ⟨by rfl, h1 (by omega)⟩
    · rcases bo b with eb | eb
      · rw [ea, eb, z0, z1] at h0
        rw [eb]
        exact ⟨by rfl, h0 (by omega)⟩
      · exact absurd (ea.trans eb.symm) n5
end
end
section
/-! addLeaf, dropLeaf, come -/
theorem dt_R_keep {a9 a10 b9 b10 : Nat → Int32} {l m : Nat} {xs : List Nat} (R : dt_R a9 a10 m xs) (hn : xs.length ≤ 40) (hne : m ≠ l)
    (h9 : ∀ j, j ≠ l → b9 j = a9 j) (h10 : ∀ j, j < l * 40 ∨ l * 40 + 40 ≤ j → b10 j = a10 j) : dt_R b9 b10 m xs := by
  refine ⟨by rw [h9 m hne]; exact R.1, fun i hi => ?_⟩
  rw [h10 (m * 40 + i) (by omega)]
  exact R.2 i hi
theorem dt_push {a : Nat → Int32} {b x : Nat} {zs : List Nat} (h : ∀ (j : Nat) (hj : j < zs.length), a (b + j) = nI zs[j]) :
    ∀ (j : Nat) (hj : j < (zs ++ [x]).length), upd a (b + zs.length) (nI x) (b + j) = nI (zs ++ [x])[j] := by
  intro j hj
  rw [List.length_append, List.length_singleton] at hj
  rcases Nat.lt_or_ge j zs.length with z | z
  · rw [pk_un (by omega), List.getElem_append_left z]
    exact h j z
  · have e : j = zs.length := by omega
    subst e
    rw [pk_us, List.getElem_concat_length rfl]
/-- the state of addLeaf's loop: k places are left as they were, the rest has moved up by one -/
def dt_A (a3 a4 a5 a10 : Nat → Int32) (l r : Nat) (xs : List Nat) (k : Nat) (a : Nat → Int32) : Prop :=
  k ≤ xs.length ∧ (∀ (j : Nat) (h : j < xs.length), j < k → a (l * 40 + j) = nI xs[j]) ∧
  (∀ (j : Nat) (h : j < xs.length), k ≤ j → a (l * 40 + j + 1) = nI xs[j] ∧ dt_w a3 a4 a5 r xs[j]) ∧
  (∀ j, j < l * 40 ∨ l * 40 + 40 ≤ j → a j = a10 j)
section
variable {post : St1 → Prop} {f : Int32} {a1 a2 a3 a4 a5 : Nat → Int32} {a6 a7 : Nat → Int64} {a8 a9 a10 : Nat → Int32} {n l r : Nat} {xs : List Nat}
theorem dt_add62 {a : Nat → Int32} {k : Nat} (hl : l < 8) (R : dt_R a9 a10 l xs)
    (hs : xs.Pairwise (dt_w a3 a4 a5)) (hx : r ∉ xs) (hn : xs.length < 40) (A : dt_A a3 a4 a5 a10 l r xs k a)
    (hk : ∀ (j : Nat) (hj : j < xs.length), j + 1 = k → ¬ dt_w a3 a4 a5 r xs[j])
    (H : ∀ (ys : List Nat) (b9 b10 : Nat → Int32), ys.Pairwise (dt_w a3 a4 a5) → (∀ q, q ∈ ys ↔ q = r ∨ q ∈ xs) → dt_R b9 b10 l ys → (∀ j, j ≠ l → b9 j = a9 j) →
      (∀ j, j < l * 40 ∨ l * 40 + 40 ≤ j → b10 j = a10 j) → post (f, a1, a2, a3, a4, a5, a6, a7, a8, b9, b10)) :
    wX_addLeaf_62 post (nI l) (nI r) (nI k) f a1 a2 a3 a4 a5 a6 a7 a8 a9 a := by
  obtain ⟨A0, A1, A2, A3⟩ := A
  unfold wX_addLeaf_62
  rw [dt_ix2, nI_clamp (show l * 40 + k < 2 ^ 31 by omega), nI_clamp (show l < 2 ^ 31 by omega), R.1, nI_1]
  refine ⟨vp_in_nI (by omega) (by omega), nm_e ⟨vp_in_nI hl (by omega), vp_in_nI hl (by omega), nm_e ?_⟩⟩
  have hL : (xs.insertIdx k r).length = xs.length + 1 := List.length_insertIdx_of_le_length A0 r
  refine H (xs.insertIdx k r) _ _ (dt_ins (dt_tr a3 a4 a5) (dt_tot a3 a4 a5) hs hx A0 (fun j hj hkj => (A2 j hj hkj).2) hk) (fun q => List.mem_insertIdx A0) ⟨?_, fun i hi => ?_⟩ (fun j hj => pk_un hj) (fun j hj => ?_)
  · rw [pk_us, hL]
  · rcases Nat.lt_trichotomy i k with z | z | z
    · rw [pk_un (by omega), List.getElem_insertIdx_of_lt z hi]
      exact A1 i (by omega) z
    · subst z
      rw [pk_us, List.getElem_insertIdx_self hi]
    · rw [pk_un (by omega), List.getElem_insertIdx_of_gt z hi]
      have t := (A2 (i - 1) (by omega) (by omega)).1
      rw [show l * 40 + (i - 1) + 1 = l * 40 + i by omega] at t
      exact t
  · rw [pk_un (by omega)]
    exact A3 j hj
theorem dt_addLeaf (hl : l < 8) (hr : r < 40) (bo : ∀ j, a5 j = 0 ∨ a5 j = 1) (R : dt_R a9 a10 l xs) (hm : ∀ q, q ∈ xs → q < 40)
    (hs : xs.Pairwise (dt_w a3 a4 a5)) (hx : r ∉ xs) (hn : xs.length < 40)
    (H : ∀ (ys : List Nat) (b9 b10 : Nat → Int32), ys.Pairwise (dt_w a3 a4 a5) → (∀ q, q ∈ ys ↔ q = r ∨ q ∈ xs) → dt_R b9 b10 l ys → (∀ j, j ≠ l → b9 j = a9 j) →
      (∀ j, j < l * 40 ∨ l * 40 + 40 ≤ j → b10 j = a10 j) → post (f, a1, a2, a3, a4, a5, a6, a7, a8, b9, b10)) :
    wpX_addLeaf post (f, a1, a2, a3, a4, a5, a6, a7, a8, a9, a10) (nI l) (nI r) := by
  unfold wpX_addLeaf
  refine ⟨vp_in_nI hl (by omega), nm_r (e' := nI xs.length) (by rw [nI_clamp (show l < 2 ^ 31 by omega), R.1]) ⟨xs.length + 1, ?_⟩⟩
  refine pk_loopD (fun n i a => wX_addLeaf_7 post (nI l) (nI r) f n (nI i) a1 a2 a3 a4 a5 a6 a7 a8 a9 a) (dt_A a3 a4 a5 a10 l r xs) ?_ ?_ xs.length a10 ⟨Nat.le_refl _, fun j h _ => R.2 j h, fun j h z => absurd z (by omega), fun j _ => rfl⟩
  · intro n a A
    exact br_t (Int32.le_refl 0) (dt_add62 (k := 0) hl R hs hx hn A (fun j hj e => absurd e (by omega)) H)
  · intro n k a A hw
    have A0 := A.1
    have hk : k < xs.length := by omega
    have hq := hm _ (List.getElem_mem hk)
    have e1 : nI l * 40 + nI (k + 1) - 1 = nI (l * 40 + k) := by rw [dt_ix2, ← Nat.add_assoc, nI_pred]
    refine br_f (nI_nle (by omega) (by omega)) ?_
    rw [e1, nI_clamp (show l * 40 + k < 2 ^ 31 by omega), A.2.1 k hk (by omega)]
    refine ⟨vp_in_nI (by omega) (by omega), dt_wins hr hq bo (fun w => br_f (by decide) ?_) (fun w => br_t rfl (dt_add62 (k := k + 1) hl R hs hx hn A (fun j hj e => ?_) H))⟩
    · rw [dt_ix2, nI_clamp (show l * 40 + (k + 1) < 2 ^ 31 by omega)]
      refine ⟨vp_in_nI (by omega) (by omega), vp_in_nI (by omega) (by omega), nm_e (nm_r (pk_m1 k) (hw _ ⟨by omega, fun j h z => ?_, fun j h z => ?_, fun j h => ?_⟩))⟩
      · rw [pk_un (by omega)]
        exact A.2.1 j h (by omega)
      · rcases Nat.lt_or_ge k j with y | y
        · rw [pk_un (by omega)]
          exact A.2.2.1 j h (by omega)
        · have ej : j = k := by omega
          subst ej
          refine ⟨?_, w⟩
          rw [Nat.add_assoc, pk_us]
      · rw [pk_un (by omega)]
        exact A.2.2.2 j h
    · have ej : j = k := by omega
      subst ej
      exact w
/-- the state of dropLeaf's loop -/
def dt_F (a10 : Nat → Int32) (l p : Nat) (xs : List Nat) (i : Nat) (u : Nat × (Nat → Int32)) : Prop :=
  u.1 = ((xs.take i).filter (fun q => decide (q ≠ p))).length ∧ (∀ (j : Nat) (h : j < ((xs.take i).filter (fun q => decide (q ≠ p))).length), u.2 (l * 40 + j) = nI ((xs.take i).filter (fun q => decide (q ≠ p)))[j]) ∧
  (∀ (j : Nat) (h : j < xs.length), i ≤ j → u.2 (l * 40 + j) = nI xs[j]) ∧ (∀ j, j < l * 40 ∨ l * 40 + 40 ≤ j → u.2 j = a10 j)
theorem dt_fl (xs : List Nat) (p i : Nat) : ((xs.take i).filter (fun q => decide (q ≠ p))).length ≤ i := by
  have h1 := List.length_filter_le (fun q => decide (q ≠ p)) (xs.take i)
  rw [List.length_take] at h1
  omega
theorem dt_dropLeaf {p : Nat} (hl : l < 8) (hp : p < 40) (R : dt_R a9 a10 l xs) (hm : ∀ q, q ∈ xs → q < 40) (hn : xs.length ≤ 40)
    (H : ∀ (b9 b10 : Nat → Int32), dt_R b9 b10 l (xs.filter (fun q => decide (q ≠ p))) → (∀ j, j ≠ l → b9 j = a9 j) →
      (∀ j, j < l * 40 ∨ l * 40 + 40 ≤ j → b10 j = a10 j) → post (f, a1, a2, a3, a4, a5, a6, a7, a8, b9, b10)) :
    wpX_dropLeaf post (f, a1, a2, a3, a4, a5, a6, a7, a8, a9, a10) (nI l) (nI p) := by
  unfold wpX_dropLeaf
  refine pk_loop (fun n i u => wX_dropLeaf_5 post (nI l) (nI p) f n (nI u.1) (nI i) a1 a2 a3 a4 a5 a6 a7 a8 a9 u.2) (dt_F a10 l p xs) xs.length 0 (0, a10) (Nat.zero_le _) ⟨rfl, fun j h => absurd h (Nat.not_lt_zero j), fun j h _ => R.2 j h, fun j _ => rfl⟩ ?_ ?_
  · intro n u F
    obtain ⟨F0, F1, F2, F3⟩ := F
    rw [List.take_length] at F0 F1
    show vp_in _ _ ∧ _
    refine ⟨vp_in_nI hl (by omega), ?_⟩
    rw [nI_clamp (show l < 2 ^ 31 by omega), R.1]
    refine pk_le xs.length xs.length (fun _ => ⟨vp_in_nI hl (by omega), nm_e (H _ _ ⟨?_, F1⟩ (fun j hj => pk_un hj) F3)⟩) (fun z => absurd z (by omega))
    rw [pk_us, F0]
  · intro n i u hi F hw
    obtain ⟨F0, F1, F2, F3⟩ := F
    have hz := dt_fl xs p i
    have hq := hm _ (List.getElem_mem hi)
    have et : (xs.take (i + 1)).filter (fun q => decide (q ≠ p)) = (xs.take i).filter (fun q => decide (q ≠ p)) ++ [xs[i]].filter (fun q => decide (q ≠ p)) := by
      rw [List.take_succ_eq_append_getElem hi, List.filter_append]
    show vp_in _ _ ∧ _
    refine ⟨vp_in_nI hl (by omega), ?_⟩
    rw [nI_clamp (show l < 2 ^ 31 by omega), R.1]
    refine pk_le xs.length i (fun z => absurd z (by omega)) (fun _ => ⟨?_, nm_r (e' := nI xs[i]) ?_ (pk_eq xs[i] p (fun g => nm_r (nI_1 i) ?_) (fun g => ?_) rfl rfl (by omega) (by omega))⟩)
    · rw [dt_ix2]
      exact vp_in_nI (by omega) (by omega)
    · rw [dt_ix2, nI_clamp (show l * 40 + i < 2 ^ 31 by omega)]
      exact F2 i hi (Nat.le_refl i)
    · have ef : [xs[i]].filter (fun q => decide (q ≠ p)) = [] := by
        rw [List.filter_cons_of_neg (by simp [g]), List.filter_nil]
      rw [ef, List.append_nil] at et
      refine hw u ⟨?_, ?_, fun j h z => F2 j h (by omega), F3⟩
      · rw [et]; exact F0
      · rw [et]; exact F1
    · have ef : [xs[i]].filter (fun q => decide (q ≠ p)) = [xs[i]] := by
        rw [List.filter_cons_of_pos (by simp [g]), List.filter_nil]
      rw [ef] at et
      rw [dt_ix2, nI_clamp (show l * 40 + u.1 < 2 ^ 31 by omega)]
      refine ⟨vp_in_nI (by omega) (by omega), nm_e (nm_r (nI_1 _) (nm_r (nI_1 i) (hw (u.1 + 1, upd u.2 (l * 40 + u.1) (nI xs[i])) ⟨?_, ?_, fun j h z => ?_, fun j h => ?_⟩)))⟩
      · rw [et, List.length_append, List.length_singleton, ← F0]
      · rw [et, F0]
        exact dt_push F1
      · show upd u.2 _ _ _ = _
        rw [pk_un (by omega)]
        exact F2 j h (by omega)
      · show upd u.2 _ _ _ = _
        rw [pk_un (by omega)]
        exact F3 j h
end
/-- the leaves behind a revision that came -/
theorem dt_L_add {n : Nat} {a1 a2 a5 : Nat → Int32} {a6 : Nat → Int64} {s r : Nat} {w' : Int64} (K : dt_K n a1 a2 a5 a6) (hs : s < 2) (hr : r < n) (hb : ¬ dt_b (a6 s) r)
    (hw : ∀ q, dt_b w' q ↔ dt_b (a6 s) q ∨ q = r) (e q : Nat) :
    dt_L a1 a2 w' e q ↔ (q = r ∧ a1 r = nI e) ∨ (dt_L a1 a2 (a6 s) e q ∧ ¬ a2 r = nI q) := by
  have hn := K.1
  constructor
  · intro h
    rcases (hw q).mp h.1 with g | g
    · exact Or.inr ⟨⟨g, h.2.1, fun c hc => h.2.2 c ((hw c).mpr (Or.inl hc))⟩, h.2.2 r ((hw r).mpr (Or.inr rfl))⟩
    · rw [g] at h
      exact Or.inl ⟨g, h.2.1⟩
  · intro h
    rcases h with ⟨g, ge⟩ | ⟨g, ge⟩
    · subst g
      refine ⟨(hw q).mpr (Or.inr rfl), ge, fun c hc ec => ?_⟩
      rcases (hw c).mp hc with y | y
      · have hcn := (K.2.2.2.2 s hs c y).1
        rcases K.2.2.1 c hcn with z | ⟨p, hp, ep, _⟩
        · exact dt_neg z (by omega) ec
        · rw [ep, nI_eq (by omega) (by omega)] at ec
          rw [ec] at hp ep
          exact hb ((K.2.2.2.2 s hs c y).2 q hp ep)
      · rw [y] at ec
        rcases K.2.2.1 q hr with z | ⟨p, hp, ep, _⟩
        · exact dt_neg z (by omega) ec
        · rw [ep, nI_eq (by omega) (by omega)] at ec
          omega
    · refine ⟨(hw q).mpr (Or.inl g.1), g.2.1, fun c hc => ?_⟩
      rcases (hw c).mp hc with y | y
      · exact g.2.2 c y
      · rw [y]; exact ge
theorem dt_K_add {n : Nat} {a1 a2 a5 : Nat → Int32} {a6 b6 : Nat → Int64} {s r : Nat} (K : dt_K n a1 a2 a5 a6) (hs : s < 2) (hr : r < n)
    (hp : a2 r < 0 ∨ ∃ p, p < r ∧ a2 r = nI p ∧ dt_b (a6 s) p) (hw : ∀ q, dt_b (b6 s) q ↔ dt_b (a6 s) q ∨ q = r) (ho : ∀ j, j ≠ s → b6 j = a6 j) : dt_K n a1 a2 a5 b6 := by
  obtain ⟨K0, K1, K2, K3, K4⟩ := K
  refine ⟨K0, K1, K2, K3, fun m hm q hq => ?_⟩
  by_cases e : m = s
  · subst e
    rcases (hw q).mp hq with y | y
    · exact ⟨(K4 m hm q y).1, fun p hpq ep => (hw p).mpr (Or.inl ((K4 m hm q y).2 p hpq ep))⟩
    · subst y
      refine ⟨hr, fun p hpq ep => ?_⟩
      rcases hp with z | ⟨p', hp', ep', hb'⟩
      · exact absurd ep (dt_neg z (by omega))
      · rw [ep', nI_eq (by omega) (by omega)] at ep
        rw [← ep]
        exact (hw p').mpr (Or.inl hb')
  · rw [ho m e] at hq ⊢
    exact K4 m hm q hq
section
variable {post : St1 → Prop} {a1 a2 a3 a4 a5 : Nat → Int32} {a6 a7 b6 : Nat → Int64} {a8 a9 a10 : Nat → Int32} {n s r d : Nat}
/-- come's end: zs is the list without the parent -/
theorem dt_come71 {b9 b10 : Nat → Int32} {zs : List Nat} (I : dt_I n a1 a2 a3 a4 a5 a6 a9 a10) (hs : s < 2) (hd : d < 4) (hr : r < n) (ed : a1 r = nI d) (hb : ¬ dt_b (a6 s) r)
    (hp : a2 r < 0 ∨ ∃ p, p < r ∧ a2 r = nI p ∧ dt_b (a6 s) p) (hw : ∀ q, dt_b (b6 s) q ↔ dt_b (a6 s) q ∨ q = r) (ho : ∀ j, j ≠ s → b6 j = a6 j)
    (zw : zs.Pairwise (dt_w a3 a4 a5)) (zm : ∀ q, q ∈ zs ↔ dt_L a1 a2 (a6 s) d q ∧ ¬ a2 r = nI q) (zR : dt_R b9 b10 (s * 4 + d) zs)
    (h9 : ∀ j, j ≠ s * 4 + d → b9 j = a9 j) (h10 : ∀ j, j < (s * 4 + d) * 40 ∨ (s * 4 + d) * 40 + 40 ≤ j → b10 j = a10 j)
    (H : ∀ (c9 c10 : Nat → Int32), dt_I n a1 a2 a3 a4 a5 b6 c9 c10 → post (nI n, a1, a2, a3, a4, a5, b6, a7, a8, c9, c10)) :
    wX_come_71 post (nI r) (nI (s * 4 + d)) (nI n) a1 a2 a3 a4 a5 b6 a7 a8 b9 b10 := by
  obtain ⟨K, IL⟩ := I
  have hn := K.1
  have zlt : ∀ q, q ∈ zs → q < n := fun q hq => (K.2.2.2.2 s hs q ((zm q).mp hq).1.1).1
  have zx : r ∉ zs := fun m => hb ((zm r).mp m).1.1
  have zl : zs.length < n := dt_len1 (dt_nodup (dt_irr a3 a4 a5) zw) zlt hr zx
  unfold wX_come_71
  refine dt_addLeaf (by omega) (by omega) K.2.2.2.1 zR (fun q hq => Nat.lt_of_lt_of_le (zlt q hq) hn) zw zx (by omega) (fun ys c9 c10 yw ym yR g9 g10 => ?_)
  refine H c9 c10 ⟨dt_K_add K hs hr hp hw ho, fun m e hm he => ?_⟩
  by_cases em : m = s
  · subst em
    by_cases ee : e = d
    · subst ee
      refine ⟨ys, yw, fun q => ?_, yR⟩
      rw [dt_L_add K hs hr hb hw, ym, zm]
      constructor
      · rintro (z | z)
        · exact Or.inl ⟨z, ed⟩
        · exact Or.inr z
      · rintro (z | z)
        · exact Or.inl z.1
        · exact Or.inr z
    · obtain ⟨xs, S⟩ := IL m e hm he
      refine ⟨xs, S.1, fun q => ?_, dt_R_keep S.2.2 (dt_S_len K hm S) (l := m * 4 + d) (by omega) (fun j hj => (g9 j hj).trans (h9 j hj)) (fun j hj => (g10 j hj).trans (h10 j hj))⟩
      rw [dt_L_add K hs hr hb hw, S.2.1]
      constructor
      · intro z
        refine Or.inr ⟨z, fun g => ?_⟩
        have ge : a1 q = a1 r := by
          rcases K.2.2.1 r hr with y | ⟨p, hp', ep, e1⟩
          · exact absurd g (dt_neg y (by have := (K.2.2.2.2 m hm q z.1).1; omega))
          · rw [ep, nI_eq (by omega) (by have := (K.2.2.2.2 m hm q z.1).1; omega)] at g
            rw [← g]
            exact e1
        rw [z.2.1, ed, nI_eq (by omega) (by omega)] at ge
        exact ee ge
      · rintro (z | z)
        · have t := z.2
          rw [ed, nI_eq (by omega) (by omega)] at t
          exact absurd t.symm ee
        · exact z.1
  · obtain ⟨xs, S⟩ := IL m e hm he
    refine ⟨xs, S.1, fun q => ?_, dt_R_keep S.2.2 (dt_S_len K hm S) (l := s * 4 + d) (by omega) (fun j hj => (g9 j hj).trans (h9 j hj)) (fun j hj => (g10 j hj).trans (h10 j hj))⟩
    rw [ho m em]
    exact S.2.1 q
theorem dt_come28 (I : dt_I n a1 a2 a3 a4 a5 a6 a9 a10) (hs : s < 2) (hr : r < n) (hb : ¬ dt_b (a6 s) r)
    (hp : a2 r < 0 ∨ ∃ p, p < r ∧ a2 r = nI p ∧ dt_b (a6 s) p) (hw : ∀ q, dt_b (b6 s) q ↔ dt_b (a6 s) q ∨ q = r) (ho : ∀ j, j ≠ s → b6 j = a6 j)
    (H : ∀ (c8 c9 c10 : Nat → Int32), dt_I n a1 a2 a3 a4 a5 b6 c9 c10 → post (nI n, a1, a2, a3, a4, a5, b6, a7, c8, c9, c10)) :
    wX_come_28 post (nI s) (nI r) (nI n) a1 a2 a3 a4 a5 b6 a7 a8 a9 a10 := by
  have I' := I
  obtain ⟨K, IL⟩ := I'
  have hn := K.1
  obtain ⟨d, hd, ed⟩ := K.2.1 r hr
  obtain ⟨xs, S⟩ := IL s d hs hd
  have xlt := dt_S_lt K hs S
  unfold wX_come_28
  rw [nI_clamp (show s < 2 ^ 31 by omega), nI_clamp (show r < 2 ^ 31 by omega)]
  refine ⟨vp_in_nI hs (by omega), vp_in_nI hs (by omega), nm_e ⟨vp_in_nI (by omega) (by omega), nm_r (e' := nI (s * 4 + d)) (by rw [ed, dt_ix]) ⟨vp_in_nI (by omega) (by omega), ?_⟩⟩⟩
  refine br_c (fun z => ?_) (fun z => ⟨vp_in_nI (by omega) (by omega), ?_⟩)
  · refine dt_come71 I hs hd hr ed hb hp hw ho S.1 (fun q => ?_) S.2.2 (fun j _ => rfl) (fun j _ => rfl) (H _)
    rw [S.2.1]
    exact ⟨fun y => ⟨y, dt_neg z (by have := (K.2.2.2.2 s hs q y.1).1; omega)⟩, fun y => y.1⟩
  · rcases hp with y | ⟨p, hpr, ep, hbp⟩
    · exact absurd y z
    · rw [ep]
      refine dt_dropLeaf (by omega) (by omega) S.2.2 (dt_S_40 K hs S) (dt_S_len K hs S) (fun b9 b10 R' g9 g10 => ?_)
      refine dt_come71 I hs hd hr ed hb (Or.inr ⟨p, hpr, ep, hbp⟩) hw ho (List.Pairwise.filter _ S.1) (fun q => ?_) R' g9 g10 (H _)
      rw [List.mem_filter, S.2.1, decide_eq_true_eq, ep]
      constructor
      · intro y
        have t := (K.2.2.2.2 s hs q y.1.1).1
        refine ⟨y.1, fun g => ?_⟩
        rw [nI_eq (by omega) (by omega)] at g
        exact y.2 g.symm
      · intro y
        exact ⟨y.1, fun g => y.2 (by rw [g])⟩
theorem dt_come {v : Int32} (I : dt_I n a1 a2 a3 a4 a5 a6 a9 a10) (hs : s < 2) (hr : r < n) (hb : ¬ dt_b (a6 s) r)
    (hp : a2 r < 0 ∨ ∃ p, p < r ∧ a2 r = nI p ∧ dt_b (a6 s) p)
    (H : ∀ (b6 b7 : Nat → Int64) (b8 b9 b10 : Nat → Int32), dt_I n a1 a2 a3 a4 a5 b6 b9 b10 → (∀ q, dt_b (b6 s) q ↔ dt_b (a6 s) q ∨ q = r) → (∀ j, j ≠ s → b6 j = a6 j) →
      post (nI n, a1, a2, a3, a4, a5, b6, b7, b8, b9, b10)) :
    wpX_come post (nI n, a1, a2, a3, a4, a5, a6, a7, a8, a9, a10) (nI s) (nI r) v := by
  have hn := I.1.1
  unfold wpX_come
  rw [nI_clamp (show s < 2 ^ 31 by omega)]
  refine ⟨vp_in_nI hs (by omega), vp_in_nI hs (by omega), fun b6 e6 => ?_⟩
  have hw : ∀ q, dt_b (b6 s) q ↔ dt_b (a6 s) q ∨ q = r := by
    intro q
    rw [e6, pk_uLs]
    exact dt_bset _ (by omega) q
  have ho : ∀ j, j ≠ s → b6 j = a6 j := by
    intro j hj
    rw [e6]
    exact pk_uLn hj
  refine br_c (fun _ => ?_) (fun _ => ⟨vp_in_nI hs (by omega), vp_in_nI hs (by omega), nm_e ?_⟩)
  · exact dt_come28 I hs hr hb hp hw ho (fun c8 c9 c10 I' => H b6 a7 c8 c9 c10 I' hw ho)
  · exact dt_come28 I hs hr hb hp hw ho (fun c8 c9 c10 I' => H b6 _ c8 c9 c10 I' hw ho)
end
end
section
/-! write, put, delete, branch -/
/-- what a write does: revision n is new -/
def dt_wr (n s d : Nat) (p dl : Int32) (a1 a2 a3 a4 a5 : Nat → Int32) (a6 : Nat → Int64) (b1 b2 b3 b4 b5 : Nat → Int32) (b6 : Nat → Int64) : Prop :=
  (b1 n = nI d ∧ b2 n = p ∧ b5 n = dl) ∧ (∀ j, j ≠ n → b1 j = a1 j ∧ b2 j = a2 j ∧ b3 j = a3 j ∧ b4 j = a4 j ∧ b5 j = a5 j) ∧
  (∀ q, dt_b (b6 s) q ↔ dt_b (a6 s) q ∨ q = n) ∧ (∀ j, j ≠ s → b6 j = a6 j)
theorem dt_w_cg {a3 a4 a5 b3 b4 b5 : Nat → Int32} {a b : Nat} (ha : b3 a = a3 a ∧ b4 a = a4 a ∧ b5 a = a5 a) (hb : b3 b = a3 b ∧ b4 b = a4 b ∧ b5 b = a5 b) (h : dt_w a3 a4 a5 a b) : dt_w b3 b4 b5 a b := by
  unfold dt_w
  rw [ha.1, ha.2.1, ha.2.2, hb.1, hb.2.1, hb.2.2]
  exact h
section
variable {a1 a2 a3 a4 a5 b1 b2 b3 b4 b5 : Nat → Int32} {a6 a7 b6 : Nat → Int64} {a8 a9 a10 : Nat → Int32} {n s d : Nat} {p dl bd : Int32} {xs : List Nat}
theorem dt_L_cg (hb : ∀ w, w < 2 → ∀ q, dt_b (a6 w) q → q < n) (hs : s < 2) (hj : ∀ j, j ≠ n → b1 j = a1 j ∧ b2 j = a2 j) (q : Nat) :
    dt_L b1 b2 (a6 s) d q ↔ dt_L a1 a2 (a6 s) d q := by
  unfold dt_L
  constructor
  · intro h
    have hq := hb s hs q h.1
    refine ⟨h.1, by rw [← (hj q (by omega)).1]; exact h.2.1, fun c hc => ?_⟩
    have hc' := hb s hs c hc
    rw [← (hj c (by omega)).2]
    exact h.2.2 c hc
  · intro h
    have hq := hb s hs q h.1
    refine ⟨h.1, by rw [(hj q (by omega)).1]; exact h.2.1, fun c hc => ?_⟩
    have hc' := hb s hs c hc
    rw [(hj c (by omega)).2]
    exact h.2.2 c hc
theorem dt_grow (I : dt_I n a1 a2 a3 a4 a5 a6 a9 a10) (hn : n < 40) (hd : d < 4) (hdl : dl = 0 ∨ dl = 1) (hp : p < 0 ∨ ∃ q, q < n ∧ p = nI q ∧ a1 q = nI d)
    (h0 : b1 n = nI d ∧ b2 n = p ∧ b5 n = dl) (hj : ∀ j, j ≠ n → b1 j = a1 j ∧ b2 j = a2 j ∧ b3 j = a3 j ∧ b4 j = a4 j ∧ b5 j = a5 j) :
    dt_I (n + 1) b1 b2 b3 b4 b5 a6 a9 a10 := by
  obtain ⟨⟨K0, K1, K2, K3, K4⟩, IL⟩ := I
  have hbn : ∀ w, w < 2 → ∀ q, dt_b (a6 w) q → q < n := fun w hw q hq => (K4 w hw q hq).1
  refine ⟨⟨by omega, fun r hr => ?_, fun r hr => ?_, fun r => ?_, fun m hm r hr => ?_⟩, fun m e hm he => ?_⟩
  · by_cases e : r = n
    · rw [e]; exact ⟨d, hd, h0.1⟩
    · rw [(hj r e).1]
      exact K1 r (by omega)
  · by_cases e : r = n
    · subst e
      rw [h0.2.1]
      rcases hp with z | ⟨q, hq, ep, eq⟩
      · exact Or.inl z
      · exact Or.inr ⟨q, hq, ep, by rw [(hj q (by omega)).1, eq, h0.1]⟩
    · rw [(hj r e).2.1]
      rcases K2 r (by omega) with z | ⟨q, hq, ep, eq⟩
      · exact Or.inl z
      · exact Or.inr ⟨q, hq, ep, by rw [(hj q (by omega)).1, (hj r e).1, eq]⟩
  · by_cases e : r = n
    · rw [e, h0.2.2]; exact hdl
    · rw [(hj r e).2.2.2.2]; exact K3 r
  · have t := K4 m hm r hr
    refine ⟨by omega, fun q hq eq => ?_⟩
    rw [(hj r (by omega)).2.1] at eq
    exact t.2 q hq eq
  · obtain ⟨xs, S⟩ := IL m e hm he
    have hx : ∀ q, q ∈ xs → q ≠ n := fun q hq => by
      have := hbn m hm q ((S.2.1 q).mp hq).1
      omega
    refine ⟨xs, List.Pairwise.imp_of_mem (fun {a b} ha hb hab => dt_w_cg (hj a (hx a ha)).2.2 (hj b (hx b hb)).2.2 hab) S.1, fun q => ?_, S.2.2⟩
    rw [dt_L_cg hbn hm (fun j h => ⟨(hj j h).1, (hj j h).2.1⟩)]
    exact S.2.1 q
variable {post : Int32 → St1 → Prop}
theorem dt_nar (hdl : dl = 0 ∨ dl = 1) : vp_nar .boolean dl = dl := by
  rcases hdl with e | e
  · rw [e]; rfl
  · rw [e]; rfl
theorem dt_write44 {z : Int32} (I : dt_I n a1 a2 a3 a4 a5 a6 a9 a10) (hs : s < 2) (hd : d < 4) (hn : n < 40) (hdl : dl = 0 ∨ dl = 1)
    (hp : p < 0 ∨ ∃ q, q < n ∧ p = nI q ∧ dt_b (a6 s) q ∧ a1 q = nI d)
    (H : ∀ (b1 b2 b3 b4 b5 : Nat → Int32) (b6 b7 : Nat → Int64) (b8 b9 b10 : Nat → Int32), dt_I (n + 1) b1 b2 b3 b4 b5 b6 b9 b10 → dt_wr n s d p dl a1 a2 a3 a4 a5 a6 b1 b2 b3 b4 b5 b6 →
      post (nI n) (nI (n + 1), b1, b2, b3, b4, b5, b6, b7, b8, b9, b10)) :
    wX_write_44 post (nI s) bd dl (nI n) z (nI n) (nI n) (upd a1 n (nI d)) (upd a2 n p) a3 a4 a5 a6 a7 a8 a9 a10 := by
  unfold wX_write_44
  rw [nI_clamp (show n < 2 ^ 31 by omega), dt_nar hdl]
  have iv := vp_in_nI hn (show 40 < 2 ^ 31 by decide)
  refine ⟨iv, nm_e ⟨iv, nm_e ⟨iv, nm_e (nm_r (nI_1 n) ?_)⟩⟩⟩
  have h0 : upd a1 n (nI d) n = nI d ∧ upd a2 n p n = p ∧ upd a5 n dl n = dl := ⟨pk_us, pk_us, pk_us⟩
  have hj : ∀ j, j ≠ n → upd a1 n (nI d) j = a1 j ∧ upd a2 n p j = a2 j ∧ upd a3 n z j = a3 j ∧ upd a4 n bd j = a4 j ∧ upd a5 n dl j = a5 j :=
    fun j h => ⟨pk_un h, pk_un h, pk_un h, pk_un h, pk_un h⟩
  have I2 : dt_I (n + 1) (upd a1 n (nI d)) (upd a2 n p) (upd a3 n z) (upd a4 n bd) (upd a5 n dl) a6 a9 a10 :=
    dt_grow I hn hd hdl (hp.elim Or.inl (fun ⟨q, h1, h2, h3, h4⟩ => Or.inr ⟨q, h1, h2, h4⟩)) h0 hj
  refine dt_come I2 hs (by omega) (fun hb => ?_) ?_ (fun b6 b7 b8 b9 b10 I3 hw ho => H _ _ _ _ _ b6 b7 b8 b9 b10 I3 ⟨h0, hj, hw, ho⟩)
  · have := (I.1.2.2.2.2 s hs n hb).1
    omega
  · rw [pk_us]
    exact hp.elim Or.inl (fun ⟨q, h1, h2, h3, h4⟩ => Or.inr ⟨q, h1, h2, h3⟩)
theorem dt_write (I : dt_I n a1 a2 a3 a4 a5 a6 a9 a10) (hs : s < 2) (hd : d < 4) (hn : n < 40) (hdl : dl = 0 ∨ dl = 1)
    (hp : p < 0 ∨ ∃ q, q < n ∧ p = nI q ∧ dt_b (a6 s) q ∧ a1 q = nI d)
    (H : ∀ (b1 b2 b3 b4 b5 : Nat → Int32) (b6 b7 : Nat → Int64) (b8 b9 b10 : Nat → Int32), dt_I (n + 1) b1 b2 b3 b4 b5 b6 b9 b10 → dt_wr n s d p dl a1 a2 a3 a4 a5 a6 b1 b2 b3 b4 b5 b6 →
      post (nI n) (nI (n + 1), b1, b2, b3, b4, b5, b6, b7, b8, b9, b10)) :
    wpX_write post (nI n, a1, a2, a3, a4, a5, a6, a7, a8, a9, a10) (nI s) (nI d) p bd dl := by
  have iv := vp_in_nI hn (show 40 < 2 ^ 31 by decide)
  unfold wpX_write
  dsimp only
  rw [nI_clamp (show n < 2 ^ 31 by omega)]
  refine ⟨iv, nm_e ⟨iv, nm_e ?_⟩⟩
  refine br_c (fun z => ⟨?_, dt_write44 I hs hd hn hdl hp H⟩) (fun z => dt_write44 I hs hd hn hdl hp H)
  rcases hp with y | ⟨q, hq, ep, _⟩
  · rw [Int32.le_iff_toInt_le] at z
    rw [Int32.lt_iff_toInt_lt] at y
    omega
  · rw [ep]
    exact vp_in_nI (by omega) (by omega)
/-- the parent that put takes: the winner, or none -/
def dt_par : List Nat → Int32
  | [] => -1
  | x :: _ => nI x
theorem dt_leafp (K : dt_K n a1 a2 a5 a6) (hs : s < 2) (S : dt_S a1 a2 a3 a4 a5 a6 a9 a10 s d xs) {q : Nat} (hq : q ∈ xs) : nI q < 0 ∨ ∃ r, r < n ∧ nI q = nI r ∧ dt_b (a6 s) r ∧ a1 r = nI d := by
  have t := (S.2.1 q).mp hq
  exact Or.inr ⟨q, dt_S_lt K hs S q hq, rfl, t.1, t.2.1⟩
theorem dt_put {x : Int32} (I : dt_I n a1 a2 a3 a4 a5 a6 a9 a10) (hs : s < 2) (hd : d < 4) (S : dt_S a1 a2 a3 a4 a5 a6 a9 a10 s d xs)
    (hx : (x = -1 ∧ xs = []) ∨ ∃ w t, xs = w :: t ∧ (x = nI w ∨ (x = -1 ∧ ¬ a5 w = 0)))
    (H3 : post (-3) (nI n, a1, a2, a3, a4, a5, a6, a7, a8, a9, a10))
    (H : n < 40 → ∀ (b1 b2 b3 b4 b5 : Nat → Int32) (b6 b7 : Nat → Int64) (b8 b9 b10 : Nat → Int32), dt_I (n + 1) b1 b2 b3 b4 b5 b6 b9 b10 → dt_wr n s d (dt_par xs) 0 a1 a2 a3 a4 a5 a6 b1 b2 b3 b4 b5 b6 →
      post (nI n) (nI (n + 1), b1, b2, b3, b4, b5, b6, b7, b8, b9, b10)) :
    wpX_put post (nI n, a1, a2, a3, a4, a5, a6, a7, a8, a9, a10) (nI s) (nI d) x bd := by
  have K := I.1
  have hn40 := K.1
  unfold wpX_put
  refine dt_refusal hs hd K.1 (fun hn => br_t rfl ?_) (fun _ => br_f (by decide) H3)
  have H' := H hn
  rcases hx with ⟨e, ex⟩ | ⟨w, t, ex, e⟩
  · refine br_t e (dt_winnerOf hs hd S.2.2 (dt_S_len K hs S) ?_)
    rw [ex] at H' ⊢
    refine br_t (by decide) ?_
    unfold wX_put_47
    refine br_t (by decide) ?_
    unfold wX_put_61
    exact dt_write I hs hd hn (Or.inl rfl) (Or.inl (by decide)) H'
  · have hwm : w ∈ xs := by rw [ex]; exact List.mem_cons_self
    have hwn := dt_S_lt K hs S w hwm
    have hpp : nI w < 0 ∨ ∃ r, r < n ∧ nI w = nI r ∧ dt_b (a6 s) r ∧ a1 r = nI d := dt_leafp K hs S hwm
    rcases e with e | ⟨e, e5⟩
    · have hne : ¬ x = (-1) := by
        intro g
        rw [e] at g
        exact nI_pos (show w < 2 ^ 31 by omega) (by rw [g]; decide)
      refine br_f hne (dt_leafOf K hs hd S (fun r er hr hm => br_f (by decide) ?_) (fun g => absurd hwm (g w e hwn)))
      rw [e]
      rw [ex] at H'
      exact dt_write I hs hd hn (Or.inl rfl) hpp H'
    · refine br_t e (dt_winnerOf hs hd S.2.2 (dt_S_len K hs S) ?_)
      rw [ex] at H' ⊢
      refine br_f (nI_pos (show w < 2 ^ 31 by omega)) ⟨vp_in_nI (show w < 40 by omega) (by decide), ?_⟩
      refine br_f ?_ ?_
      · show ¬ a5 (nI w).toNatClampNeg = 0
        rw [nI_clamp (show w < 2 ^ 31 by omega)]
        exact e5
      · unfold wX_put_47
        refine br_f (nI_pos (show w < 2 ^ 31 by omega)) ?_
        unfold wX_put_61
        exact dt_write I hs hd hn (Or.inl rfl) hpp H'
theorem dt_delete {x : Int32} (I : dt_I n a1 a2 a3 a4 a5 a6 a9 a10) (hs : s < 2) (hd : d < 4)
    (H3 : ∀ r : Int32, r < 0 → post r (nI n, a1, a2, a3, a4, a5, a6, a7, a8, a9, a10))
    (H : n < 40 → ∀ (p : Int32) (b1 b2 b3 b4 b5 : Nat → Int32) (b6 b7 : Nat → Int64) (b8 b9 b10 : Nat → Int32), dt_I (n + 1) b1 b2 b3 b4 b5 b6 b9 b10 → dt_wr n s d p 1 a1 a2 a3 a4 a5 a6 b1 b2 b3 b4 b5 b6 →
      post (nI n) (nI (n + 1), b1, b2, b3, b4, b5, b6, b7, b8, b9, b10)) :
    wpX_delete post (nI n, a1, a2, a3, a4, a5, a6, a7, a8, a9, a10) (nI s) (nI d) x := by
  have K := I.1
  have hn40 := K.1
  obtain ⟨xs, S⟩ := I.2 s d hs hd
  unfold wpX_delete
  refine dt_refusal hs hd K.1 (fun hn => br_t rfl ?_) (fun _ => br_f (by decide) (H3 _ (by decide)))
  refine dt_leafOf K hs hd S (fun r er hr hm => br_f (by decide) ?_) (fun _ => br_t rfl (H3 _ (by decide)))
  rw [er, nI_clamp (show r < 2 ^ 31 by omega)]
  exact ⟨vp_in_nI (show r < 40 by omega) (by decide), br_c (fun _ => dt_write I hs hd hn (Or.inr rfl) (dt_leafp K hs S hm) (H hn _)) (fun _ => H3 _ (by decide))⟩
theorem dt_branch {x : Int32} (I : dt_I n a1 a2 a3 a4 a5 a6 a9 a10) (hs : s < 2) (hd : d < 4)
    (H3 : ∀ r : Int32, post r (nI n, a1, a2, a3, a4, a5, a6, a7, a8, a9, a10))
    (H : n < 40 → ∀ (p : Int32) (b1 b2 b3 b4 b5 : Nat → Int32) (b6 b7 : Nat → Int64) (b8 b9 b10 : Nat → Int32), dt_I (n + 1) b1 b2 b3 b4 b5 b6 b9 b10 → dt_wr n s d p 0 a1 a2 a3 a4 a5 a6 b1 b2 b3 b4 b5 b6 →
      post (nI n) (nI (n + 1), b1, b2, b3, b4, b5, b6, b7, b8, b9, b10)) :
    wpX_branch post (nI n, a1, a2, a3, a4, a5, a6, a7, a8, a9, a10) (nI s) (nI d) x bd := by
  have K := I.1
  have hn40 := K.1
  unfold wpX_branch
  refine dt_refusal hs hd K.1 (fun hn => br_t rfl ?_) (fun _ => br_f (by decide) (H3 _))
  refine dt_hasOf hs K.1 (fun r er hr hb ed => br_f (by decide) ?_) (fun _ => br_t rfl (H3 _))
  exact dt_write I hs hd hn (Or.inl rfl) (Or.inr ⟨r, hr, er, hb, ed⟩) (H hn _)
end
end
section
/-! lacking, pull, compact -/
/-- a set of revisions that site s lacks: all are the other's, of document d; parents are in it or there already -/
def dt_V (n : Nat) (a1 a2 : Nat → Int32) (ws wo : Int64) (d : Nat) (v : Int64) : Prop :=
  (∀ q, dt_b v q → q < n ∧ ¬ dt_b ws q ∧ dt_b wo q ∧ a1 q = nI d) ∧ (∀ q, dt_b v q → ∀ p, p < q → a2 q = nI p → dt_b v p ∨ dt_b ws p)
theorem dt_V0 {n : Nat} {a1 a2 : Nat → Int32} {ws wo : Int64} {d : Nat} : dt_V n a1 a2 ws wo d 0 := ⟨fun q h => absurd h (dt_b0 q), fun q h => absurd h (dt_b0 q)⟩
theorem dt_Vor {n : Nat} {a1 a2 : Nat → Int32} {ws wo v w : Int64} {d : Nat} (hv : dt_V n a1 a2 ws wo d v) (hw : dt_V n a1 a2 ws wo d w) : dt_V n a1 a2 ws wo d (v ||| w) := by
  refine ⟨fun q h => ?_, fun q h p hp ep => ?_⟩
  · rcases (dt_bor v w q).mp h with z | z
    · exact hv.1 q z
    · exact hw.1 q z
  · rcases (dt_bor v w q).mp h with z | z
    · rcases hv.2 q z p hp ep with y | y
      · exact Or.inl ((dt_bor v w p).mpr (Or.inl y))
      · exact Or.inr y
    · rcases hw.2 q z p hp ep with y | y
      · exact Or.inl ((dt_bor v w p).mpr (Or.inr y))
      · exact Or.inr y
section
variable {a1 a2 a3 a4 a5 : Nat → Int32} {a6 a7 : Nat → Int64} {a8 a9 a10 : Nat → Int32} {n s o d : Nat} {xs : List Nat}
/-- the state of lacking's loop -/
def dt_Y (n : Nat) (a1 a2 : Nat → Int32) (ws wo : Int64) (d r0 : Nat) (v : Int64) (x y : Int32) : Prop :=
  (∀ q, dt_b v q → q < n ∧ ¬ dt_b ws q ∧ dt_b wo q ∧ a1 q = nI d) ∧ (∀ q, dt_b v q → ∀ p, p < q → a2 q = nI p → dt_b v p ∨ dt_b ws p ∨ x = nI p) ∧ (dt_b v r0 ∨ x = nI r0) ∧
  ∃ i : Nat, y = nI i ∧ i ≤ 40 ∧ (x < 0 ∨ ∃ r, x = nI r ∧ r < n ∧ dt_b wo r ∧ a1 r = nI d ∧ i + r < 40)
theorem dt_Yneg {ws wo v : Int64} {r0 : Nat} {x y : Int32} (Y : dt_Y n a1 a2 ws wo d r0 v x y) (hn : n ≤ 40) (hr : r0 < n) (hx : x < 0) : dt_V n a1 a2 ws wo d v ∧ (dt_b v r0 ∨ dt_b ws r0) := by
  obtain ⟨Y0, Y1, Y2, _⟩ := Y
  refine ⟨⟨Y0, fun q hq p hp ep => ?_⟩, ?_⟩
  · rcases Y1 q hq p hp ep with z | z | z
    · exact Or.inl z
    · exact Or.inr z
    · have := (Y0 q hq).1
      exact absurd z (dt_neg hx (by omega))
  · rcases Y2 with z | z
    · exact Or.inl z
    · exact absurd z (dt_neg hx (by omega))
theorem dt_lacking {post : Int64 → Prop} {r0 : Nat} (K : dt_K n a1 a2 a5 a6) (hs : s < 2) (ho : o < 2) (hr : r0 < n) (hb : dt_b (a6 o) r0) (ed : a1 r0 = nI d)
    (H : ∀ v, dt_V n a1 a2 (a6 s) (a6 o) d v → (dt_b v r0 ∨ dt_b (a6 s) r0) → post v) :
    wpX_lacking post (nI n, a1, a2, a3, a4, a5, a6, a7, a8, a9, a10) (nI s) (nI r0) := by
  have hn := K.1
  unfold wpX_lacking
  refine lp3 (fun m v x y => wX_lacking_8 post (nI s) (nI n) a1 a2 a3 a4 a5 a6 a7 a8 a9 a10 m v x y) (dt_Y n a1 a2 (a6 s) (a6 o) d r0) (fun _ _ y => 40 - y.toNatClampNeg) ?_ 0 (nI r0) 0 ?_
  · intro m v x y Y hw
    have Y' := Y
    obtain ⟨Y0, Y1, Y2, i, ey, hi, Y3⟩ := Y'
    subst ey
    refine pk_le 40 i (fun z => ?_) (fun z => ?_)
    · rcases Y3 with x0 | ⟨r, ex, h1, h2, h3, h4⟩
      · have t := dt_Yneg Y hn hr x0
        exact H v t.1 t.2
      · omega
    · rcases Y3 with x0 | ⟨r, ex, h1, h2, h3, h4⟩
      · have t := dt_Yneg Y hn hr x0
        exact br_t x0 (H v t.1 t.2)
      · subst ex
        refine br_f (nI_pos (by omega)) ⟨vp_in_nI hs (by omega), ?_⟩
        rw [nI_clamp (show s < 2 ^ 31 by omega)]
        refine dt_isIn hn (fun g => br_t rfl (fun v' ev => ⟨vp_in_nI (by omega) (by omega), nm_e (nm_r (nI_1 i) ?_)⟩)) (fun r' er hr' hb' => br_f (by decide) (H v ⟨Y0, fun q hq p hp ep => ?_⟩ ?_))
        · have g' := g r rfl h1
          have hv' : ∀ q, dt_b v' q ↔ dt_b v q ∨ q = r := fun q => by
            rw [ev]
            exact dt_bset v (by omega) q
          rw [nI_clamp (show r < 2 ^ 31 by omega)]
          refine hw v' (a2 r) (nI (i + 1)) ⟨fun q hq => ?_, fun q hq p hp ep => ?_, ?_, i + 1, rfl, by omega, ?_⟩ ?_
          · rcases (hv' q).mp hq with z' | z'
            · exact Y0 q z'
            · rw [z']
              exact ⟨h1, g', h2, h3⟩
          · rcases (hv' q).mp hq with z' | z'
            · rcases Y1 q z' p hp ep with y' | y' | y'
              · exact Or.inl ((hv' p).mpr (Or.inl y'))
              · exact Or.inr (Or.inl y')
              · have hqn := (Y0 q z').1
                rw [nI_eq (by omega) (by omega)] at y'
                exact Or.inl ((hv' p).mpr (Or.inr y'.symm))
            · rw [z'] at ep
              exact Or.inr (Or.inr ep)
          · rcases Y2 with z' | z'
            · exact Or.inl ((hv' r0).mpr (Or.inl z'))
            · rw [nI_eq (by omega) (by omega)] at z'
              exact Or.inl ((hv' r0).mpr (Or.inr z'.symm))
          · rcases K.2.2.1 r h1 with z' | ⟨p, hp, ep, e1⟩
            · exact Or.inl z'
            · exact Or.inr ⟨p, ep, by omega, (K.2.2.2.2 o ho r h2).2 p hp ep, by rw [e1]; exact h3, by omega⟩
          · show 40 - (nI (i + 1)).toNatClampNeg < 40 - (nI i).toNatClampNeg
            rw [nI_clamp (by omega), nI_clamp (by omega)]
            omega
        · rw [nI_eq (by omega) (by omega)] at er
          rw [← er] at hb'
          rcases Y1 q hq p hp ep with y' | y' | y'
          · exact Or.inl y'
          · exact Or.inr y'
          · have hqn := (Y0 q hq).1
            rw [nI_eq (by omega) (by omega)] at y'
            rw [← y']
            exact Or.inr hb'
        · rw [nI_eq (by omega) (by omega)] at er
          rw [← er] at hb'
          rcases Y2 with z' | z'
          · exact Or.inl z'
          · rw [nI_eq (by omega) (by omega)] at z'
            rw [← z']
            exact Or.inr hb'
  · exact ⟨fun q h => absurd h (dt_b0 q), fun q h => absurd h (dt_b0 q), Or.inr rfl, 0, rfl, by omega, Or.inr ⟨r0, rfl, hr, hb, ed, by omega⟩⟩
/-- with every leaf of the other in it, a lacking set has all that the other has -/
theorem dt_full {v : Int64} (K : dt_K n a1 a2 a5 a6) (hs : s < 2) (ho : o < 2) (S : dt_S a1 a2 a3 a4 a5 a6 a9 a10 o d xs) (V : dt_V n a1 a2 (a6 s) (a6 o) d v)
    (hv : ∀ q, q ∈ xs → dt_b v q ∨ dt_b (a6 s) q) : ∀ k q, 40 ≤ q + k → dt_b (a6 o) q → a1 q = nI d → dt_b v q ∨ dt_b (a6 s) q := by
  have hn := K.1
  intro k
  induction k with
  | zero =>
    intro q hq hb _
    have := (K.2.2.2.2 o ho q hb).1
    omega
  | succ k ih =>
    intro q hq hb ed
    have hqn := (K.2.2.2.2 o ho q hb).1
    by_cases hc : ∃ c, dt_b (a6 o) c ∧ a2 c = nI q
    · obtain ⟨c, hcb, hc2⟩ := hc
      have hcn := (K.2.2.2.2 o ho c hcb).1
      have hqc : q < c ∧ a1 q = a1 c := by
        rcases K.2.2.1 c hcn with z | ⟨p, hp, ep, e1⟩
        · exact absurd hc2 (dt_neg z (by omega))
        · rw [ep, nI_eq (by omega) (by omega)] at hc2
          rw [← hc2]
          exact ⟨hp, e1⟩
      rcases ih c (by omega) hcb (by rw [← hqc.2]; exact ed) with z | z
      · exact V.2 c z q hqc.1 hc2
      · exact Or.inr ((K.2.2.2.2 s hs c z).2 q hqc.1 hc2)
    · exact hv q ((S.2.1 q).mpr ⟨hb, ed, fun c h e => hc ⟨c, h, e⟩⟩)
variable {post : Int32 → St1 → Prop}
/-- the copying loop -/
theorem dt_pull83 {v : Int64} (I : dt_I n a1 a2 a3 a4 a5 a6 a9 a10) (hs : s < 2) (ho : o < 2) (V : dt_V n a1 a2 (a6 s) (a6 o) d v)
    (H : ∀ (m : Int32) (b6 b7 : Nat → Int64) (b8 b9 b10 : Nat → Int32), dt_I n a1 a2 a3 a4 a5 b6 b9 b10 → (∀ q, dt_b (b6 s) q ↔ dt_b (a6 s) q ∨ dt_b v q) → (∀ j, j ≠ s → b6 j = a6 j) →
      post m (nI n, a1, a2, a3, a4, a5, b6, b7, b8, b9, b10)) :
    ∃ fu, wX_pull_83 post (nI s) (nI o) v fu 0 0 (nI n) a1 a2 a3 a4 a5 a6 a7 a8 a9 a10 := by
  have hn := I.1.1
  refine pk_loop (σ := Int32 × (Nat → Int64) × (Nat → Int64) × (Nat → Int32) × (Nat → Int32) × (Nat → Int32))
    (fun m i u => wX_pull_83 post (nI s) (nI o) v m u.1 (nI i) (nI n) a1 a2 a3 a4 a5 u.2.1 u.2.2.1 u.2.2.2.1 u.2.2.2.2.1 u.2.2.2.2.2)
    (fun i u => dt_I n a1 a2 a3 a4 a5 u.2.1 u.2.2.2.2.1 u.2.2.2.2.2 ∧ (∀ q, dt_b (u.2.1 s) q ↔ dt_b (a6 s) q ∨ (dt_b v q ∧ q < i)) ∧ (∀ j, j ≠ s → u.2.1 j = a6 j))
    n 0 (0, a6, a7, a8, a9, a10) (Nat.zero_le _) ⟨I, fun q => ⟨Or.inl, fun h => h.elim id (fun z => absurd z.2 (Nat.not_lt_zero q))⟩, fun j _ => rfl⟩ ?_ ?_
  · intro m u hu
    obtain ⟨c, b6, b7, b8, b9, b10⟩ := u
    obtain ⟨I', hb, hj⟩ := hu
    refine pk_le n n (fun _ => H c b6 b7 b8 b9 b10 I' (fun q => ?_) hj) (fun z => absurd z (by omega))
    refine (hb q).trans ⟨fun z => z.elim Or.inl (fun y => Or.inr y.1), fun z => z.elim Or.inl (fun y => Or.inr ⟨y, (V.1 q y).1⟩)⟩
  · intro m i u hi hu hw
    obtain ⟨c, b6, b7, b8, b9, b10⟩ := u
    obtain ⟨I', hb, hj⟩ := hu
    refine pk_le n i (fun z => absurd z (by omega)) (fun _ => ek_if (dt_bit v (by omega)) (fun bv => ⟨vp_in_nI ho (by omega), ?_⟩) (fun bv => nm_r (nI_1 i) (hw (c, b6, b7, b8, b9, b10) ⟨I', fun q => ?_, hj⟩)))
    · have hnb : ¬ dt_b (b6 s) i := by
        intro z
        rcases (hb i).mp z with y | y
        · exact (V.1 i bv).2.1 y
        · omega
      have hpi : a2 i < 0 ∨ ∃ p, p < i ∧ a2 i = nI p ∧ dt_b (b6 s) p := by
        rcases I'.1.2.2.1 i hi with z | ⟨p, hp, ep, _⟩
        · exact Or.inl z
        · refine Or.inr ⟨p, hp, ep, (hb p).mpr ?_⟩
          rcases V.2 i bv p hp ep with y | y
          · exact Or.inr ⟨y, hp⟩
          · exact Or.inl y
      have hc : ∀ r : Int32, wpX_come (fun u => match u with | (g0, g1, g2, g3, g4, g5, g6, g7, g8, g9, g10) => (∀ x7_46 : Int32, x7_46 = c + 1 → (∀ x8_47 : Int32, x8_47 = nI i + 1 → (wX_pull_83 post (nI s) (nI o) v m x7_46 x8_47 g0 g1 g2 g3 g4 g5 g6 g7 g8 g9 g10)))) (nI n, a1, a2, a3, a4, a5, b6, b7, b8, b9, b10) (nI s) (nI i) r := by
        intro r
        refine dt_come I' hs hi hnb hpi (fun c6 c7 c8 c9 c10 I2 h2 h3 => nm_e (nm_r (nI_1 i) (hw (c + 1, c6, c7, c8, c9, c10) ⟨I2, fun q => ?_, fun j h => (h3 j h).trans (hj j h)⟩)))
        rw [h2 q, hb q]
        constructor
        · rintro ((z | z) | z)
          · exact Or.inl z
          · exact Or.inr ⟨z.1, by omega⟩
          · rw [z]; exact Or.inr ⟨bv, by omega⟩
        · rintro (z | z)
          · exact Or.inl (Or.inl z)
          · rcases Nat.lt_or_ge q i with y | y
            · exact Or.inl (Or.inr ⟨z.1, y⟩)
            · exact Or.inr (by omega)
      exact dt_isIn hn (fun _ => hc 0) (fun _ _ _ _ => hc 1)
    · refine (hb q).trans ⟨fun z => z.elim Or.inl (fun y => Or.inr ⟨y.1, by omega⟩), fun z => z.elim Or.inl (fun y => Or.inr ⟨y.1, ?_⟩)⟩
      rcases Nat.lt_or_ge q i with g | g
      · exact g
      · have e : q = i := by omega
        rw [e] at y
        exact absurd y.1 bv
theorem dt_pull (I : dt_I n a1 a2 a3 a4 a5 a6 a9 a10) (hs : s < 2) (hd : d < 4) (eo : o = 1 - s)
    (H : ∀ (m : Int32) (b6 b7 : Nat → Int64) (b8 b9 b10 : Nat → Int32), dt_I n a1 a2 a3 a4 a5 b6 b9 b10 → (∀ q, dt_b (b6 s) q ↔ dt_b (a6 s) q ∨ (dt_b (a6 o) q ∧ a1 q = nI d)) → (∀ j, j ≠ s → b6 j = a6 j) →
      post m (nI n, a1, a2, a3, a4, a5, b6, b7, b8, b9, b10)) :
    wpX_pull post (nI n, a1, a2, a3, a4, a5, a6, a7, a8, a9, a10) (nI s) (nI d) := by
  have K := I.1
  have hn := K.1
  have ho : o < 2 := by omega
  obtain ⟨xs, S⟩ := I.2 o d ho hd
  have xl := dt_S_len K ho S
  unfold wpX_pull
  refine dt_site hs (br_t rfl (dt_doc hd (br_t rfl (nm_r (e' := nI o) (by rw [eo]; exact pk_sub (a := 1) (by omega)) (nm_r (dt_ix o d) ?_)))))
  refine pk_loop (fun m i v => wX_pull_36 post (nI s) (nI o) (nI (o * 4 + d)) (nI n) a1 a2 a3 a4 a5 a6 a7 a8 a9 a10 m v (nI i))
    (fun i v => dt_V n a1 a2 (a6 s) (a6 o) d v ∧ ∀ (j : Nat) (h : j < xs.length), j < i → dt_b v xs[j] ∨ dt_b (a6 s) xs[j]) xs.length 0 0 (Nat.zero_le _) ⟨dt_V0, fun j _ z => absurd z (Nat.not_lt_zero j)⟩ ?_ ?_
  · intro m v hv
    obtain ⟨V, hv⟩ := hv
    show vp_in _ _ ∧ _
    refine ⟨vp_in_nI (by omega) (by omega), ?_⟩
    rw [nI_clamp (show o * 4 + d < 2 ^ 31 by omega), S.2.2.1]
    refine pk_le xs.length xs.length (fun _ => dt_pull83 I hs ho V (fun m b6 b7 b8 b9 b10 I' hb hj => H m b6 b7 b8 b9 b10 I' (fun q => ?_) hj)) (fun z => absurd z (by omega))
    rw [hb q]
    constructor
    · rintro (z | z)
      · exact Or.inl z
      · exact Or.inr (V.1 q z).2.2
    · rintro (z | z)
      · exact Or.inl z
      · have t := dt_full K hs ho S V (fun q hq => by
          obtain ⟨j, hj, e⟩ := List.getElem_of_mem hq
          rw [← e]
          exact hv j hj hj) 40 q (by omega) z.1 z.2
        exact t.elim Or.inr Or.inl
  · intro m i v hi hv hw
    obtain ⟨V, hv⟩ := hv
    show vp_in _ _ ∧ _
    refine ⟨vp_in_nI (by omega) (by omega), ?_⟩
    rw [nI_clamp (show o * 4 + d < 2 ^ 31 by omega), S.2.2.1]
    refine pk_le xs.length i (fun z => absurd z (by omega)) (fun _ => ?_)
    have hm := List.getElem_mem hi
    have hq := dt_S_lt K ho S _ hm
    have hL := (S.2.1 _).mp hm
    rw [dt_ix2, nI_clamp (show (o * 4 + d) * 40 + i < 2 ^ 31 by omega), S.2.2.2 i hi]
    refine ⟨vp_in_nI (by omega) (by omega), dt_lacking K hs ho hq hL.1 hL.2.1 (fun w W hw0 => nm_e (nm_r (nI_1 i) (hw (v ||| w) ⟨dt_Vor V W, fun j h z => ?_⟩)))⟩
    rcases Nat.lt_or_ge j i with y | y
    · exact (hv j h y).elim (fun z => Or.inl ((dt_bor _ _ _).mpr (Or.inl z))) Or.inr
    · have e : j = i := by omega
      subst e
      exact hw0.elim (fun z => Or.inl ((dt_bor _ _ _).mpr (Or.inr z))) Or.inr
theorem dt_compact (I : dt_I n a1 a2 a3 a4 a5 a6 a9 a10) (hs : s < 2)
    (H : ∀ (m : Int32) (b7 : Nat → Int64), post m (nI n, a1, a2, a3, a4, a5, a6, b7, a8, a9, a10)) :
    wpX_compact post (nI n, a1, a2, a3, a4, a5, a6, a7, a8, a9, a10) (nI s) := by
  have K := I.1
  have hn := K.1
  unfold wpX_compact
  refine dt_site hs (br_t rfl ?_)
  refine pk_loop (σ := Int32 × (Nat → Int64)) (fun m i u => wX_compact_13 post (nI s) (nI n) m u.1 (nI i) a1 a2 a3 a4 a5 a6 u.2 a8 a9 a10) (fun _ _ => True) n 0 (0, a7) (Nat.zero_le _) trivial ?_ ?_
  · intro m u _
    exact pk_le n n (fun _ => H u.1 u.2) (fun z => absurd z (by omega))
  · intro m i u hi _ hw
    obtain ⟨c, b7⟩ := u
    refine pk_le n i (fun z => absurd z (by omega)) (fun _ => ⟨vp_in_nI hs (by omega), ?_⟩)
    refine dt_isIn hn (fun _ => br_t rfl (nm_r (nI_1 i) (hw (c, b7) trivial))) (fun _ _ _ _ => br_f (by decide) ?_)
    obtain ⟨d, hd, ed⟩ := K.2.1 i hi
    obtain ⟨xs, S⟩ := I.2 s d hs hd
    exact dt_isLeaf hs hd (by omega) ed S.2.2 (dt_S_40 K hs S) (dt_S_len K hs S) (fun _ => br_f (by decide) (nm_r (nI_1 i) (hw (c, b7) trivial)))
      (fun _ => br_t rfl ⟨vp_in_nI hs (by omega), vp_in_nI hs (by omega), nm_e (nm_e (nm_r (nI_1 i) (hw (c + 1, _) trivial)))⟩)
end
end
section
/-! alike; the pieces of the law's loop -/
theorem dt_same {n : Nat} {a1 a2 a5 : Nat → Int32} {a6 : Nat → Int64} {s o d : Nat} (K : dt_K n a1 a2 a5 a6) (ho : o < 2) (hs : s < 2) (h : ∀ q, a1 q = nI d → (dt_b (a6 s) q ↔ dt_b (a6 o) q)) (q : Nat) :
    dt_L a1 a2 (a6 s) d q → dt_L a1 a2 (a6 o) d q := by
  have hn := K.1
  intro L
  refine ⟨(h q L.2.1).mp L.1, L.2.1, fun c hc ec => ?_⟩
  have hq := (K.2.2.2.2 s hs q L.1).1
  have hcn := (K.2.2.2.2 o ho c hc).1
  rcases K.2.2.1 c hcn with z | ⟨p, hp, ep, e1⟩
  · exact dt_neg z (by omega) ec
  · have t := ec
    rw [ep, nI_eq (by omega) (by omega)] at t
    rw [t, L.2.1] at e1
    exact L.2.2 c ((h c e1.symm).mpr hc) ec
section
variable {post : Int32 → Prop} {a1 a2 a3 a4 a5 : Nat → Int32} {a6 a7 : Nat → Int64} {a8 a9 a10 : Nat → Int32} {n s d : Nat} {xs : List Nat}
theorem dt_alike (I : dt_I n a1 a2 a3 a4 a5 a6 a9 a10) (hd : d < 4) (hq : ∀ q, a1 q = nI d → (dt_b (a6 0) q ↔ dt_b (a6 1) q)) (h : post 1) :
    wpL_alike post (nI n, a1, a2, a3, a4, a5, a6, a7, a8, a9, a10) (nI d) := by
  have K := I.1
  have i0 : 0 < 2 := by decide
  have i1 : 1 < 2 := by decide
  obtain ⟨xs, S0⟩ := I.2 0 d i0 hd
  obtain ⟨ys, S1⟩ := I.2 1 d i1 hd
  have e : ys = xs := dt_uniq (dt_irr a3 a4 a5) (dt_tr a3 a4 a5) ys xs S1.1 S0.1 (fun q => by
    rw [S1.2.1, S0.2.1]
    exact ⟨dt_same K i0 i1 (fun q e => (hq q e).symm) q, dt_same K i1 i0 hq q⟩)
  subst e
  have m0 := dt_S_40 K i0 S0
  have l0 := dt_S_len K i0 S0
  unfold wpL_alike
  refine dt_winner (s := 0) i0 hd S0.2.2 l0 (dt_winner (s := 1) i1 hd S1.2.2 l0 (br_t rfl (dt_conflicts (s := 0) i0 hd S0.2.2 m0 l0 (dt_conflicts (s := 1) i1 hd S1.2.2 m0 l0 (br_t rfl
    (dt_leaves (s := 0) i0 hd S0.2.2 (dt_leaves (s := 1) i1 hd S1.2.2 (br_t rfl ?_))))))))
  refine pk_loop (σ := Unit) (fun m i _ => wL_alike_49 post (nI d) (nI n) a1 a2 a3 a4 a5 a6 a7 a8 a9 a10 m (nI i)) (fun _ _ => True) 40 0 () (Nat.zero_le _) trivial ?_ ?_
  · intro m _ _
    exact pk_le 40 40 (fun _ => h) (fun z => absurd z (by omega))
  · intro m i _ hi _ hw
    exact pk_le 40 i (fun z => absurd z (by omega)) (fun _ => dt_conflict (s := 0) hi i0 hd S0.2.2 m0 l0 (dt_conflict (s := 1) hi i1 hd S1.2.2 m0 l0 (br_t rfl (nm_r (nI_1 i) (hw () trivial)))))
/-- the list behind a put at the winner -/
theorem dt_put_ys {b1 b2 b3 b4 b5 b9 b10 : Nat → Int32} {b6 : Nat → Int64} {ys : List Nat} {dl : Int32} (I : dt_I n a1 a2 a3 a4 a5 a6 a9 a10) (hs : s < 2)
    (S : dt_S a1 a2 a3 a4 a5 a6 a9 a10 s d xs) (I' : dt_I (n + 1) b1 b2 b3 b4 b5 b6 b9 b10) (S' : dt_S b1 b2 b3 b4 b5 b6 b9 b10 s d ys)
    (wr : dt_wr n s d (dt_par xs) dl a1 a2 a3 a4 a5 a6 b1 b2 b3 b4 b5 b6) : n ∈ ys ∧ dt_o b5 ys - 1 ≤ dt_o a5 xs - 1 := by
  have K := I.1
  have K' := I'.1
  have hn := K.1
  have hn' := K'.1
  obtain ⟨⟨w1, w2, w5⟩, wj, wb, wo⟩ := wr
  have hny : n ∈ ys := by
    refine (S'.2.1 n).mpr ⟨(wb n).mpr (Or.inr rfl), w1, fun c hc ec => ?_⟩
    have hcn := (K'.2.2.2.2 s hs c hc).1
    rcases K'.2.2.1 c hcn with z | ⟨p, hp, ep, _⟩
    · exact dt_neg z (by omega) ec
    · rw [ep, nI_eq (by omega) (by omega)] at ec
      omega
  have hym : ∀ q, q ∈ ys → q = n ∨ (q ∈ xs ∧ ¬ dt_par xs = nI q) := by
    intro q hq
    have L := (S'.2.1 q).mp hq
    rcases (wb q).mp L.1 with z | z
    · have hqn := (K.2.2.2.2 s hs q z).1
      refine Or.inr ⟨(S.2.1 q).mpr ⟨z, by rw [← (wj q (by omega)).1]; exact L.2.1, fun c hc => ?_⟩, ?_⟩
      · have hcn := (K.2.2.2.2 s hs c hc).1
        rw [← (wj c (by omega)).2.1]
        exact L.2.2 c ((wb c).mpr (Or.inl hc))
      · rw [← w2]
        exact L.2.2 n ((wb n).mpr (Or.inr rfl))
    · exact Or.inl z
  refine ⟨hny, ?_⟩
  have nd := dt_S_nd S'
  cases xs with
  | nil =>
    have t := dt_o_put (a5 := b5) (t := []) nd (fun r hr => (hym r hr).elim Or.inl (fun z => Or.inr z.1)) List.Pairwise.nil
    have t0 : dt_o b5 [] = 0 := rfl
    omega
  | cons w t =>
    have hx : ∀ q, q ∈ w :: t → q ≠ n := fun q hq => by
      have := dt_S_lt K hs S q hq
      omega
    have so := dt_S_op K.2.2.2.1 S.1
    rw [List.pairwise_cons] at so
    have st : t.Pairwise (fun a b => b5 b = 0 → b5 a = 0) := by
      refine List.Pairwise.imp_of_mem (fun {a b} ha hb hab => ?_) so.2
      rw [(wj a (hx a (List.mem_cons_of_mem _ ha))).2.2.2.2, (wj b (hx b (List.mem_cons_of_mem _ hb))).2.2.2.2]
      exact hab
    have tt := dt_o_put (a5 := b5) (t := t) (q := n) nd (fun r hr => by
      rcases hym r hr with z | ⟨z, y⟩
      · exact Or.inl z
      · rcases List.mem_cons.mp z with g | g
        · exact absurd (by rw [g]; rfl) y
        · exact Or.inr g) st
    rw [dt_o_cg (a5 := b5) (b5 := a5) t (fun r hr => (wj r (hx r (List.mem_cons_of_mem _ hr))).2.2.2.2)] at tt
    by_cases hw : a5 w = 0
    · rw [dt_o_t hw]
      omega
    · have t0 : dt_o a5 t = 0 := by
        cases t with
        | nil => rfl
        | cons y t => exact dt_o_f (fun g => hw (so.1 y List.mem_cons_self g))
      omega
end
/-- the deletions that the law remembers -/
def dt_D (n : Nat) (a5 : Nat → Int32) (x2 x3 : Int32) : Prop := (∀ r, r < 20 → dt_c x2 r → r < n ∧ a5 r = 1) ∧ (∀ r, r < 20 → dt_c x3 r → r + 20 < n ∧ a5 (r + 20) = 1)
theorem dt_D_wr {n s d : Nat} {p dl x2 x3 : Int32} {a1 a2 a3 a4 a5 b1 b2 b3 b4 b5 : Nat → Int32} {a6 b6 : Nat → Int64} (D : dt_D n a5 x2 x3) (wr : dt_wr n s d p dl a1 a2 a3 a4 a5 a6 b1 b2 b3 b4 b5 b6) : dt_D (n + 1) b5 x2 x3 := by
  have wj := wr.2.1
  refine ⟨fun r hr hc => ?_, fun r hr hc => ?_⟩
  · have t := D.1 r hr hc
    exact ⟨by omega, by rw [(wj r (by omega)).2.2.2.2]; exact t.2⟩
  · have t := D.2 r hr hc
    exact ⟨by omega, by rw [(wj (r + 20) (by omega)).2.2.2.2]; exact t.2⟩
/-- the law's loop goes on from every state that keeps the invariant -/
def dt_J (J : Int32 → Int32 → Int32 → Int32 → (Nat → Int32) → (Nat → Int32) → (Nat → Int32) → (Nat → Int32) → (Nat → Int32) → (Nat → Int64) → (Nat → Int64) → (Nat → Int32) → (Nat → Int32) → (Nat → Int32) → Prop) (x4 : Int32) : Prop :=
  ∀ (n : Nat) (x2 x3 : Int32) (a1 a2 a3 a4 a5 : Nat → Int32) (a6 a7 : Nat → Int64) (a8 a9 a10 : Nat → Int32), dt_I n a1 a2 a3 a4 a5 a6 a9 a10 → dt_D n a5 x2 x3 → J x2 x3 (x4 + 2) (nI n) a1 a2 a3 a4 a5 a6 a7 a8 a9 a10
section
variable {L : Nat} {xs : Nat → Int32} {J : Int32 → Int32 → Int32 → Int32 → (Nat → Int32) → (Nat → Int32) → (Nat → Int32) → (Nat → Int32) → (Nat → Int32) → (Nat → Int64) → (Nat → Int64) → (Nat → Int32) → (Nat → Int32) → (Nat → Int32) → Prop} {x2 x3 x4 : Int32} {kc ks : Nat}
  {a1 a2 a3 a4 a5 : Nat → Int32} {a6 a7 : Nat → Int64} {a8 a9 a10 : Nat → Int32} {n s d : Nat}
theorem dt_458 (hJ : dt_J J x4) (I : dt_I n a1 a2 a3 a4 a5 a6 a9 a10) (D : dt_D n a5 x2 x3) : wL_law_458 (fun r => r = 1) L xs J x2 x3 x4 (nI s) (nI d) kc ks (nI n) a1 a2 a3 a4 a5 a6 a7 a8 a9 a10 := by
  unfold wL_law_458 wL_law_459
  exact br_t rfl (nm_e (hJ n x2 x3 a1 a2 a3 a4 a5 a6 a7 a8 a9 a10 I D))
theorem dt_459 {w : Nat} {t : List Nat} (hJ : dt_J J x4) (I : dt_I n a1 a2 a3 a4 a5 a6 a9 a10) (D : dt_D n a5 x2 x3) (hs : s < 2) (hd : d < 4) (S : dt_S a1 a2 a3 a4 a5 a6 a9 a10 s d (w :: t)) (h5 : ¬ a5 w = 0) :
    wL_law_459 (fun r => r = 1) L xs J x2 x3 x4 (nI s) (nI d) 1 kc ks (nI n) a1 a2 a3 a4 a5 a6 a7 a8 a9 a10 := by
  have K := I.1
  have hn := K.1
  have m0 := dt_S_40 K hs S
  have l0 := dt_S_len K hs S
  have o0 : dt_o a5 (w :: t) = 0 := dt_o_f h5
  unfold wL_law_459
  refine br_f (by decide) (dt_conflicts hs hd S.2.2 m0 l0 (br_t ?_ (dt_conflict (j := 0) (by decide) hs hd S.2.2 m0 l0 (br_t ?_ ?_))))
  · rw [o0]
    rfl
  · unfold dt_qk
    rw [o0]
    rfl
  · refine dt_put I hs hd S (Or.inr ⟨w, t, rfl, Or.inr ⟨rfl, h5⟩⟩) ?_ (fun hn b1 b2 b3 b4 b5 b6 b7 b8 b9 b10 I' wr => ?_)
    · exact br_f (by decide) (nm_e (hJ n x2 x3 a1 a2 a3 a4 a5 a6 a7 a8 a9 a10 I D))
    · refine br_f (fun g => nI_pos (show n < 2 ^ 31 by omega) (by rw [g]; decide)) (nm_e (hJ (n + 1) x2 x3 b1 b2 b3 b4 b5 b6 b7 b8 b9 b10 I' (dt_D_wr D wr)))
theorem dt_448 {w : Nat} {t : List Nat} {z : Int32} (hJ : dt_J J x4) (I : dt_I n a1 a2 a3 a4 a5 a6 a9 a10) (D : dt_D n a5 x2 x3) (hs : s < 2) (hd : d < 4) (S : dt_S a1 a2 a3 a4 a5 a6 a9 a10 s d (w :: t))
    (h5 : (z &&& 1) = 1 → a5 w = 1) :
    wL_law_448 (fun r => r = 1) L xs J x2 x3 x4 (nI s) (nI d) z kc ks (nI n) a1 a2 a3 a4 a5 a6 a7 a8 a9 a10 := by
  unfold wL_law_448
  refine br_c (fun g => dt_459 hJ I D hs hd S ?_) (fun _ => dt_458 hJ I D)
  rw [h5 g]
  decide
theorem dt_412 (hJ : dt_J J x4) (I : dt_I n a1 a2 a3 a4 a5 a6 a9 a10) (D : dt_D n a5 x2 x3) (hs : s < 2) (hd : d < 4) :
    wL_law_412 (fun r => r = 1) L xs J x2 x3 x4 (nI s) (nI d) kc ks (nI n) a1 a2 a3 a4 a5 a6 a7 a8 a9 a10 := by
  have K := I.1
  have hn := K.1
  obtain ⟨ys, S⟩ := I.2 s d hs hd
  unfold wL_law_412
  refine dt_winner hs hd S.2.2 (dt_S_len K hs S) ?_
  cases ys with
  | nil => exact br_t (by decide) (dt_458 hJ I D)
  | cons w t =>
    have hw := dt_S_40 K hs S w List.mem_cons_self
    refine br_f (nI_pos (show w < 2 ^ 31 by omega)) (pk_le 20 w (fun z => dt_448 hJ I D hs hd S (fun g => ?_)) (fun z => dt_448 hJ I D hs hd S (fun g => ?_)))
    · have g' : (x3 >>> ((nI w - nI 20) &&& 31)) &&& 1 = 1 := g
      rw [pk_sub z, dt_cbit x3 (show w - 20 < 32 by omega)] at g'
      have t := (D.2 (w - 20) (by omega) g').2
      rw [show w - 20 + 20 = w by omega] at t
      exact t
    · have g' : (x2 >>> (nI w &&& 31)) &&& 1 = 1 := g
      rw [dt_cbit x2 (show w < 32 by omega)] at g'
      exact (D.1 w z g').2
theorem dt_188 {z0 : Int32} (hJ : dt_J J x4) (I : dt_I n a1 a2 a3 a4 a5 a6 a9 a10) (D : dt_D n a5 x2 x3) (hs : s < 2) (hd : d < 4) :
    wL_law_188 (fun r => r = 1) L xs J x2 x3 x4 (nI s) (nI d) z0 (nI d) (nI s) kc ks (nI n) a1 a2 a3 a4 a5 a6 a7 a8 a9 a10 := by
  unfold wL_law_188
  refine dt_delete I hs hd (fun r hr => br_t hr ?_) (fun hn p b1 b2 b3 b4 b5 b6 b7 b8 b9 b10 I' wr => br_f (nI_pos (by omega)) ?_)
  · unfold wL_law_237
    exact dt_412 hJ I D hs hd
  · have D' := dt_D_wr D wr
    have w5 := wr.1.2.2
    refine pk_le 20 n (fun z => ?_) (fun z => ?_)
    · unfold wL_law_215
      refine br_t (nI_le (a := 20) z (by omega)) ?_
      unfold wL_law_236 wL_law_237
      refine dt_412 hJ I' ⟨D'.1, fun r hr hc => ?_⟩ hs hd
      have hc' : dt_c (x3 ||| ((1 : Int32) <<< ((nI n - nI 20) &&& 31))) r := hc
      rw [pk_sub z, dt_cset x3 (show n - 20 < 32 by omega)] at hc'
      rcases hc' with y | y
      · exact D'.2 r hr y
      · have e : r + 20 = n := by omega
        rw [e]
        exact ⟨by omega, w5⟩
    · unfold wL_law_215
      refine br_f (nI_ge (b := 20) z (by decide)) ?_
      unfold wL_law_236 wL_law_237
      refine dt_412 hJ I' ⟨fun r hr hc => ?_, D'.2⟩ hs hd
      rw [dt_cset x2 (show n < 32 by omega)] at hc
      rcases hc with y | y
      · exact D'.1 r hr y
      · rw [y]
        exact ⟨by omega, w5⟩
theorem dt_119 {z0 x11 : Int32} {ys : List Nat} (hJ : dt_J J x4) (I : dt_I n a1 a2 a3 a4 a5 a6 a9 a10) (D : dt_D n a5 x2 x3) (hs : s < 2) (hd : d < 4) (S : dt_S a1 a2 a3 a4 a5 a6 a9 a10 s d ys)
    (hx : (z0 = -1 ∧ ys = []) ∨ ∃ w t, ys = w :: t ∧ (z0 = nI w ∨ (z0 = -1 ∧ ¬ a5 w = 0))) :
    wL_law_119 (fun r => r = 1) L xs J x2 x3 x4 (nI s) (nI d) x11 (nI (dt_o a5 ys - 1)) z0 (nI d) (nI s) kc ks (nI n) a1 a2 a3 a4 a5 a6 a7 a8 a9 a10 := by
  have ol := dt_o_le a5 ys
  have yl := dt_S_len I.1 hs S
  unfold wL_law_119
  refine dt_put I hs hd S hx (br_t (by decide) ?_) (fun hn b1 b2 b3 b4 b5 b6 b7 b8 b9 b10 I' wr => br_f (nI_pos (by omega)) ?_)
  · unfold wL_law_157
    exact dt_412 hJ I D hs hd
  · obtain ⟨us, S'⟩ := I'.2 s d hs hd
    have T := dt_put_ys I hs S I' S' wr
    have m0 := dt_S_40 I'.1 hs S'
    have l0 := dt_S_len I'.1 hs S'
    refine dt_conflicts hs hd S'.2.2 m0 l0 (br_f (nI_nlt T.2 (by omega)) (dt_winner hs hd S'.2.2 l0 ?_))
    cases us with
    | nil => exact absurd T.1 List.not_mem_nil
    | cons w t =>
      have hw := m0 w List.mem_cons_self
      refine br_t (nI_pos' (show w < 2 ^ 31 by omega)) ?_
      unfold wL_law_157
      exact dt_412 hJ I' (dt_D_wr D wr) hs hd
end
end
section
/-! the law -/
def dt_Z (L : Nat) (x2 x3 x4 f : Int32) (a1 a2 a3 a4 a5 : Nat → Int32) (a6 a7 : Nat → Int64) (a8 a9 a10 : Nat → Int32) : Prop :=
  ∃ n k : Nat, f = nI n ∧ x4 = nI k ∧ k ≤ L ∧ dt_I n a1 a2 a3 a4 a5 a6 a9 a10 ∧ dt_D n a5 x2 x3
theorem dt_loop (xs : Nat → Int32) (L : Nat) (hL : L ≤ 260) (kc ks : Nat) (x2 x3 x4 f : Int32) (a1 a2 a3 a4 a5 : Nat → Int32) (a6 a7 : Nat → Int64) (a8 a9 a10 : Nat → Int32)
    (h : dt_Z L x2 x3 x4 f a1 a2 a3 a4 a5 a6 a7 a8 a9 a10) : ∃ fu, wL_law_15 (fun r => r = 1) L xs kc ks fu x2 x3 x4 f a1 a2 a3 a4 a5 a6 a7 a8 a9 a10 := by
  refine lp14 (fun m x2 x3 x4 f a1 a2 a3 a4 a5 a6 a7 a8 a9 a10 => wL_law_15 (fun r => r = 1) L xs kc ks m x2 x3 x4 f a1 a2 a3 a4 a5 a6 a7 a8 a9 a10) (dt_Z L) (fun _ _ x4 _ _ _ _ _ _ _ _ _ _ _ => L + 2 - x4.toNatClampNeg) ?_ x2 x3 x4 f a1 a2 a3 a4 a5 a6 a7 a8 a9 a10 h
  intro m x2 x3 x4 f a1 a2 a3 a4 a5 a6 a7 a8 a9 a10 hZ hw
  obtain ⟨n, k, ef, e4, hk, I, D⟩ := hZ
  subst ef e4
  refine pk_le L (k + 1) (fun _ => rfl) (fun z => ?_) rfl (nI_1 k) (by omega) (by omega)
  have hJ : dt_J (wL_law_15 (fun r => r = 1) L xs kc ks m) (nI k) := by
    intro n' y2 y3 b1 b2 b3 b4 b5 b6 b7 b8 b9 b10 I' D'
    have e2 : nI k + 2 = nI (k + 2) := nI_add k 2
    refine hw y2 y3 (nI k + 2) (nI n') b1 b2 b3 b4 b5 b6 b7 b8 b9 b10 ⟨n', k + 2, rfl, e2, by omega, I', D'⟩ ?_
    show L + 2 - (nI k + 2).toNatClampNeg < L + 2 - (nI k).toNatClampNeg
    rw [e2, nI_clamp (by omega), nI_clamp (by omega)]
    omega
  refine ⟨vp_in_nI (by omega) (by omega), fun x5 e5 => ⟨?_, fun x6 e6 x7 e7 x8 e8 => ?_⟩⟩
  · rw [nI_1]
    exact vp_in_nI (by omega) (by omega)
  · obtain ⟨s, hs, es⟩ := pk_andE x6 (m := 1) 1 (by decide)
    obtain ⟨d, hd', ed⟩ := pk_andE (x6 >>> ((1 : Int32) &&& 31)) (m := 1) 1 (by decide)
    rw [es] at e7
    rw [ed] at e8
    subst e7 e8
    have hd : d < 4 := by omega
    have hs : s < 2 := hs
    have K := I.1
    obtain ⟨ys, S⟩ := I.2 s d hs hd
    have m0 := dt_S_40 K hs S
    have l0 := dt_S_len K hs S
    refine dt_winner hs hd S.2.2 l0 ⟨by decide, fun x10 e10 x11 e11 => ?_⟩
    refine br_c (fun _ => br_c (fun _ => br_c (fun _ => br_c (fun _ => br_c (fun _ => ?_) (fun _ => ?_)) (fun _ => ?_)) (fun _ => ⟨by decide, ?_⟩)) (fun _ => br_c (fun _ => ?_) (fun _ => ?_))) (fun _ => ?_)
    · exact dt_pull I hs hd rfl (fun _ b6 b7 b8 b9 b10 I' _ _ => dt_412 hJ I' D hs hd)
    · exact dt_conflicts hs hd S.2.2 m0 l0 (dt_leaves hs hd S.2.2 (dt_conflict (j := 0) (by decide) hs hd S.2.2 m0 l0 (dt_compact I hs (fun _ b7 =>
        dt_winner hs hd S.2.2 l0 (br_t rfl (dt_conflicts hs hd S.2.2 m0 l0 (br_t rfl (dt_leaves hs hd S.2.2 (br_t rfl (dt_conflict (j := 0) (by decide) hs hd S.2.2 m0 l0 (br_t rfl (dt_412 hJ I D hs hd))))))))))))
    · refine dt_pull (s := 0) (o := 1) I (by decide) hd rfl (fun _ b6 b7 b8 b9 b10 I1 h1 g1 => dt_pull (s := 1) (o := 0) I1 (by decide) hd rfl (fun _ c6 c7 c8 c9 c10 I2 h2 g2 => ?_))
      refine dt_alike I2 hd (fun q eq => ?_) (br_f (by decide) (dt_412 hJ I2 D hs hd))
      rw [h2 q, g2 0 (by decide), h1 q, g1 1 (by decide)]
      constructor
      · intro z
        exact Or.inr ⟨z, eq⟩
      · rintro (z | z)
        · exact Or.inr ⟨z, eq⟩
        · exact z.1
    · exact dt_branch I hs hd (fun _ => dt_412 hJ I D hs hd) (fun _ _ b1 b2 b3 b4 b5 b6 b7 b8 b9 b10 I' wr => dt_412 hJ I' (dt_D_wr D wr) hs hd)
    · exact dt_188 hJ I D hs hd
    · exact dt_188 hJ I D hs hd
    · refine dt_conflicts hs hd S.2.2 m0 l0 ?_
      cases ys with
      | nil => exact br_f (by decide) (dt_119 hJ I D hs hd S (Or.inl ⟨rfl, rfl⟩))
      | cons w t =>
        have hw := m0 w List.mem_cons_self
        exact br_t (nI_pos' (show w < 2 ^ 31 by omega)) (dt_119 hJ I D hs hd S (Or.inr ⟨w, t, rfl, Or.inl rfl⟩))
theorem dt_start : dt_I 0 (fun _ => 0) (fun _ => 0) (fun _ => 0) (fun _ => 0) (fun _ => 0) (fun _ => 0) (fun _ => 0) (fun _ => 0) := by
  refine ⟨⟨by decide, fun r h => absurd h (Nat.not_lt_zero r), fun r h => absurd h (Nat.not_lt_zero r), fun r => Or.inl rfl, fun s _ r h => absurd h (dt_b0 r)⟩, fun s d _ _ => ⟨[], List.Pairwise.nil, fun r => ?_, rfl, fun i h => absurd h (Nat.not_lt_zero i)⟩⟩
  exact ⟨fun h => absurd h List.not_mem_nil, fun h => absurd h.1 (dt_b0 r)⟩
theorem i_vc (xs : Nat → Int32) (L : Nat) (hL : L ≤ 260) : wpL_law (fun r => r = 1) L xs := by
  refine ⟨10, 534, by decide, by decide, ?_⟩
  unfold wpX_init
  refine ⟨by decide, by decide, by decide, by decide, by decide, by decide, by decide, by decide, by decide, by decide, by decide, by decide, by decide, by decide, by decide, by decide, by decide, by decide, by decide, by decide, ?_⟩
  exact dt_loop xs L hL _ _ 0 0 0 0 _ _ _ _ _ _ _ _ _ _ ⟨0, 0, rfl, rfl, Nat.zero_le _, dt_start, fun r _ h => absurd h (dt_c0 r), fun r _ h => absurd h (dt_c0 r)⟩
end
