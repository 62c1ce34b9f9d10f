section
/-! Int32 by its bits (the rows cv_bt .. cv_b_sshr began as kit/laws/BITS.to-paste, renamed) -/
def cv_bt (x : Int32) (i : Nat) : Bool := x.toBitVec.getLsbD i
theorem cv_b_ext {x y : Int32} (h : ∀ i, i < 32 → cv_bt x i = cv_bt y i) : x = y := Int32.toBitVec_inj.mp (BitVec.eq_of_getLsbD_eq (fun i hi => h i hi))
theorem cv_b_or (x y : Int32) (i : Nat) : cv_bt (x ||| y) i = (cv_bt x i || cv_bt y i) := by unfold cv_bt; rw [Int32.toBitVec_or, BitVec.getLsbD_or]
theorem cv_b_and (x y : Int32) (i : Nat) : cv_bt (x &&& y) i = (cv_bt x i && cv_bt y i) := by unfold cv_bt; rw [Int32.toBitVec_and, BitVec.getLsbD_and]
theorem cv_b_xor (x y : Int32) (i : Nat) : cv_bt (x ^^^ y) i = (cv_bt x i ^^ cv_bt y i) := by unfold cv_bt; rw [Int32.toBitVec_xor, BitVec.getLsbD_xor]
theorem cv_b_m1 : ∀ i, i < 32 → cv_bt (-1) i = true := by decide +kernel
theorem cv_b_0 (i : Nat) : cv_bt 0 i = false := BitVec.getLsbD_zero
theorem cv_b_1 : ∀ i, i < 32 → cv_bt 1 i = decide (i = 0) := by decide +kernel
theorem cv_s_l : ∀ n, n < 32 → ((nI n &&& 31).toBitVec.smod 32).toNat = n := by decide +kernel
theorem cv_b_sshr (n : Nat) (hn : n < 32) (x : Int32) {i : Nat} (hi : i < 32) : cv_bt (x >>> (nI n &&& 31)) i = if n + i < 32 then cv_bt x (n + i) else cv_bt x 31 := by
  unfold cv_bt
  rw [Int32.toBitVec_shiftRight]
  show (x.toBitVec.sshiftRight ((nI n &&& 31).toBitVec.smod 32).toNat).getLsbD i = _
  rw [cv_s_l n hn, BitVec.getLsbD_sshiftRight, BitVec.msb_eq_getLsbD_last]
  simp [hi]
theorem cv_b_one : ∀ k, k < 8 → ∀ i, i < 8 → cv_bt ((1 : Int32) <<< (nI k &&& 31)) i = decide (i = k) := by decide +kernel
theorem cv_bit (x : Int32) {k : Nat} (hk : k < 8) : (x >>> (nI k &&& 31)) &&& 1 = if cv_bt x k then 1 else 0 := by
  apply cv_b_ext
  intro i hi
  rw [cv_b_and, cv_b_sshr k (by omega) x hi, cv_b_1 i hi]
  by_cases h : i = 0
  · subst h
    rw [if_pos (show k + 0 < 32 by omega), Nat.add_zero]
    cases cv_bt x k
    · rfl
    · rfl
  · rw [decide_eq_false h, Bool.and_false]
    cases cv_bt x k
    · exact (cv_b_0 i).symm
    · rw [if_pos rfl, cv_b_1 i hi, decide_eq_false h]
theorem cv_bitT (x : Int32) {k : Nat} (hk : k < 8) : ((x >>> (nI k &&& 31)) &&& 1) = 1 ↔ cv_bt x k = true := by
  rw [cv_bit x hk]
  cases cv_bt x k
  · decide
  · decide
theorem cv_ix (i k : Nat) : (8 : Int32) * nI i + nI k = nI (8 * i + k) := by
  rw [show (8 : Int32) = nI 8 from rfl, pk_mul, nI_add]
theorem cv_ixc {i k : Nat} (h : 8 * i + k < 2 ^ 31) : ((8 : Int32) * nI i + nI k).toNatClampNeg = 8 * i + k := by
  rw [cv_ix, nI_clamp h]
theorem cv_ixi {i k N : Nat} (h : 8 * i + k < N) (hN : N < 2 ^ 31) : vp_in ((8 : Int32) * nI i + nI k) N := by
  rw [cv_ix]
  exact vp_in_nI h hN
theorem cv_fill {f s : Nat → Int32} {i d : Nat} {x : Int32} (h : ∀ j, j < i → s (d + j) = f j) (hx : x = f i) : ∀ j, j < i + 1 → upd s (d + i) x (d + j) = f j := by
  intro j hj
  by_cases e : j = i
  · rw [e, pk_us, hx]
  · rw [pk_un (by omega)]
    exact h j (by omega)
theorem cv_fill0 {f s : Nat → Int32} {i : Nat} {x : Int32} (h : ∀ j, j < i → s j = f j) (hx : x = f i) : ∀ j, j < i + 1 → upd s i x j = f j := by
  intro j hj
  by_cases e : j = i
  · rw [e, pk_us, hx]
  · rw [pk_un e]
    exact h j (by omega)
/-- how many of the first n places say yes -/
def cv_cnt (p : Nat → Bool) : Nat → Nat
  | 0 => 0
  | n + 1 => cv_cnt p n + (if p n then 1 else 0)
theorem cv_cnt_le (p : Nat → Bool) : ∀ n, cv_cnt p n ≤ n := by
  intro n
  induction n with
  | zero => exact Nat.le_refl 0
  | succ n ih =>
    show cv_cnt p n + (if p n then 1 else 0) ≤ n + 1
    by_cases h : p n = true
    · rw [if_pos h]
      omega
    · rw [if_neg h]
      omega
theorem cv_cnt_ext {p q : Nat → Bool} : ∀ n, (∀ k, k < n → p k = q k) → cv_cnt p n = cv_cnt q n := by
  intro n
  induction n with
  | zero => intro _; rfl
  | succ n ih =>
    intro h
    show cv_cnt p n + (if p n then 1 else 0) = cv_cnt q n + (if q n then 1 else 0)
    rw [ih (fun k hk => h k (by omega)), h n (by omega)]
theorem cv_cnt_0 {p : Nat → Bool} : ∀ n, (∀ k, k < n → p k = false) → cv_cnt p n = 0 := by
  intro n
  induction n with
  | zero => intro _; rfl
  | succ n ih =>
    intro h
    show cv_cnt p n + (if p n then 1 else 0) = 0
    rw [ih (fun k hk => h k (by omega)), h n (by omega)]
    rfl
theorem cv_cnt_1 {p : Nat → Bool} {d : Nat} (hd : p d = true) : ∀ n, d < n → (∀ k, k < n → k ≠ d → p k = false) → cv_cnt p n = 1 := by
  intro n
  induction n with
  | zero => intro h; exact absurd h (by omega)
  | succ n ih =>
    intro h h2
    show cv_cnt p n + (if p n then 1 else 0) = 1
    by_cases e : n = d
    · rw [cv_cnt_0 n (fun k hk => h2 k (by omega) (by omega)), e, if_pos hd]
    · rw [ih (by omega) (fun k hk => h2 k (by omega)), h2 n (by omega) e]
      rfl
/-- the sum of a table's first n places -/
def cv_sum (f : Nat → Nat) : Nat → Nat
  | 0 => 0
  | n + 1 => cv_sum f n + f n
theorem cv_sum_0 {f : Nat → Nat} : ∀ n, (∀ c, c < n → f c = 0) → cv_sum f n = 0 := by
  intro n
  induction n with
  | zero => intro _; rfl
  | succ n ih =>
    intro h
    show cv_sum f n + f n = 0
    rw [ih (fun k hk => h k (by omega)), h n (by omega)]
theorem cv_sum_1 {f : Nat → Nat} {d : Nat} (hd : f d = 1) : ∀ n, d < n → (∀ c, c < n → c ≠ d → f c = 0) → cv_sum f n = 1 := by
  intro n
  induction n with
  | zero => intro h; exact absurd h (by omega)
  | succ n ih =>
    intro h h2
    show cv_sum f n + f n = 1
    by_cases e : n = d
    · rw [cv_sum_0 n (fun k hk => h2 k (by omega) (by omega)), e, hd]
    · rw [ih (by omega) (fun k hk => h2 k (by omega)), h2 n (by omega) e]
end
section
section
variable {dm s ct br cl : Int32} {a1 a2 a3 a4 a5 a6 a7 a8 a9 a10 a11 a12 a13 : Nat → Int32}
/-- chunk i holds the mask m and the cells f -/
def cv_is (a1 a2 : Nat → Int32) (i : Nat) (m : Int32) (f : Nat → Int32) : Prop := a1 i = m ∧ ∀ k, k < 8 → a2 (8 * i + k) = f k
/-- a link of the chains: none, or a kept chunk -/
def cv_pt (st : Nat) (x : Int32) : Prop := x = -1 ∨ ∃ m, m < st ∧ x = nI m
/-- the chains and the buckets of a store of st chunks -/
def cv_sto (st : Nat) (a3 a4 : Nat → Int32) : Prop := (∀ i, i < st → cv_pt st (a3 i)) ∧ (∀ b, b < 32 → cv_pt st (a4 b))
/-- the store b1 b2 holds what a1 a2 held in its first st chunks -/
def cv_ext (st : Nat) (a1 a2 b1 b2 : Nat → Int32) : Prop := (∀ i, i < st → b1 i = a1 i) ∧ (∀ q, q < 8 * st → b2 q = a2 q)
theorem cv_pt_up {st st' : Nat} {x : Int32} (h : st ≤ st') (hx : cv_pt st x) : cv_pt st' x := by
  rcases hx with e | ⟨m, hm, e⟩
  · exact Or.inl e
  · exact Or.inr ⟨m, by omega, e⟩
theorem cv_ext_rfl (st : Nat) (a1 a2 : Nat → Int32) : cv_ext st a1 a2 a1 a2 := ⟨fun _ _ => rfl, fun _ _ => rfl⟩
theorem cv_ext_tr {st st' : Nat} {a1 a2 b1 b2 c1 c2 : Nat → Int32} (hs : st ≤ st') (h : cv_ext st a1 a2 b1 b2) (g : cv_ext st' b1 b2 c1 c2) : cv_ext st a1 a2 c1 c2 :=
  ⟨fun i hi => by rw [g.1 i (by omega), h.1 i hi], fun q hq => by rw [g.2 q (by omega), h.2 q hq]⟩
theorem cv_is_up {st i : Nat} {m : Int32} {a1 a2 b1 b2 f : Nat → Int32} (h : cv_ext st a1 a2 b1 b2) (hi : i < st) (g : cv_is a1 a2 i m f) : cv_is b1 b2 i m f :=
  ⟨by rw [h.1 i hi, g.1], fun k hk => by rw [h.2 (8 * i + k) (by omega), g.2 k hk]⟩
theorem cv_isDraft_17 {post : Int32 → Prop} {i : Nat} (hi : i < 168) (h0 : post 0) (h1 : (∀ k, k < 8 → a2 (8 * i + k) = a13 k) → post 1) : ∃ n, wX_isDraft_17 post (nI i) dm s ct br cl a1 a2 a3 a4 a5 a6 a7 a8 a9 a10 a11 a12 a13 n 0 := by
  refine pk_loop (σ := Unit) (fun n k _ => wX_isDraft_17 post (nI i) dm s ct br cl a1 a2 a3 a4 a5 a6 a7 a8 a9 a10 a11 a12 a13 n (nI k)) (fun k _ => ∀ j, j < k → a2 (8 * i + j) = a13 j) 8 0 () (by omega) (fun j hj => absurd hj (by omega)) (fun n _ h => pk_le 8 8 (fun _ => h1 h) (fun z => absurd z (by omega))) (fun n k _ hk h hw => pk_le 8 k (fun z => absurd z (by omega)) (fun _ => ⟨cv_ixi (by omega) (by omega), pk_in k 8 hk, ?_⟩))
  rw [cv_ixc (by omega), nI_clamp (by omega)]
  exact br_c (fun e => nm_r (nI_1 k) (hw () (lt_s h e))) (fun _ => h0)
theorem cv_isDraft {post : Int32 → Prop} {i : Nat} (hi : i < 168) (h0 : post 0) (h1 : cv_is a1 a2 i dm a13 → post 1) : wpX_isDraft post (dm, s, ct, br, cl, a1, a2, a3, a4, a5, a6, a7, a8, a9, a10, a11, a12, a13) (nI i) := by
  unfold wpX_isDraft
  refine ⟨pk_in i 168 hi, ?_⟩
  rw [nI_clamp (by omega)]
  exact br_c (fun e => cv_isDraft_17 hi h0 (fun h => h1 ⟨e, h⟩)) (fun _ => h0)
theorem cv_intern_108 {post : Int32 → St2 → Prop} {b st : Nat} (hb : b < 32) (hst : st < 168)
    (H : ∀ b2, (∀ q, q < 8 * st → b2 q = a2 q) → (∀ k, k < 8 → b2 (8 * st + k) = a13 k) → post (nI st) (dm, nI (st + 1), ct, br, cl, a1, b2, upd a3 st (a4 b), upd a4 b (nI st), a5, a6, a7, a8, a9, a10, a11, a12, a13)) :
    ∃ n, wX_intern_108 post (nI b) dm (nI st) ct br cl n 0 a1 a2 a3 a4 a5 a6 a7 a8 a9 a10 a11 a12 a13 := by
  refine pk_loop (fun n k t => wX_intern_108 post (nI b) dm (nI st) ct br cl n (nI k) a1 t a3 a4 a5 a6 a7 a8 a9 a10 a11 a12 a13) (fun k t => (∀ q, q < 8 * st → t q = a2 q) ∧ ∀ j, j < k → t (8 * st + j) = a13 j) 8 0 a2 (by omega) ⟨fun _ _ => rfl, fun j hj => absurd hj (by omega)⟩ (fun n t h => pk_le 8 8 (fun _ => ⟨pk_in b 32 hb, pk_in st 168 hst, ?_⟩) (fun z => absurd z (by omega))) (fun n k t hk h hw => pk_le 8 k (fun z => absurd z (by omega)) (fun _ => ⟨pk_in k 8 hk, cv_ixi (by omega) (by omega), ?_⟩))
  · rw [nI_clamp (show st < 2 ^ 31 by omega), nI_clamp (show b < 2 ^ 31 by omega)]
    refine nm_e ⟨pk_in b 32 hb, nm_e (nm_r (nI_1 st) ?_)⟩
    rw [nI_pred]
    exact H t h.1 h.2
  · rw [cv_ixc (by omega), nI_clamp (by omega)]
    refine nm_e (nm_r (nI_1 k) (hw _ ⟨fun q hq => ?_, cv_fill h.2 rfl⟩))
    rw [pk_un (by omega), h.1 q hq]
theorem cv_intern_92 {post : Int32 → St2 → Prop} {b st : Nat} (hb : b < 32) (hst : st < 168) (hs : cv_sto st a3 a4)
    (H : ∀ i st' b1 b2 b3 b4, st ≤ st' → st' ≤ st + 1 → i < st' → cv_sto st' b3 b4 → cv_ext st a1 a2 b1 b2 → cv_is b1 b2 i dm a13 → post (nI i) (dm, nI st', ct, br, cl, b1, b2, b3, b4, a5, a6, a7, a8, a9, a10, a11, a12, a13)) :
    wX_intern_92 post (nI b) dm (nI st) ct br cl a1 a2 a3 a4 a5 a6 a7 a8 a9 a10 a11 a12 a13 := by
  unfold wX_intern_92
  refine ⟨pk_in st 168 hst, ?_⟩
  rw [nI_clamp (show st < 2 ^ 31 by omega)]
  refine nm_e (cv_intern_108 hb hst (fun b2 h1 h2 => H st (st + 1) _ b2 _ _ (by omega) (by omega) (by omega) ⟨fun i hi => ?_, fun c hc => ?_⟩ ⟨fun i hi => pk_un (by omega), h1⟩ ⟨pk_us, h2⟩))
  · by_cases e : i = st
    · rw [e, pk_us]
      exact cv_pt_up (by omega) (hs.2 b hb)
    · rw [pk_un e]
      exact cv_pt_up (by omega) (hs.1 i (by omega))
  · by_cases e : c = b
    · rw [e, pk_us]
      exact Or.inr ⟨st, by omega, rfl⟩
    · rw [pk_un e]
      exact cv_pt_up (by omega) (hs.2 c hc)
theorem cv_intern_56 {post : Int32 → St2 → Prop} {b st : Nat} {x : Int32} (hb : b < 32) (hst : st < 168) (hs : cv_sto st a3 a4) (hx : cv_pt st x)
    (H : ∀ i st' b1 b2 b3 b4, st ≤ st' → st' ≤ st + 1 → i < st' → cv_sto st' b3 b4 → cv_ext st a1 a2 b1 b2 → cv_is b1 b2 i dm a13 → post (nI i) (dm, nI st', ct, br, cl, b1, b2, b3, b4, a5, a6, a7, a8, a9, a10, a11, a12, a13)) :
    ∃ n, wX_intern_56 post (nI b) dm (nI st) ct br cl a1 a2 a3 a4 a5 a6 a7 a8 a9 a10 a11 a12 a13 n x 0 := by
  refine pk_loop (fun n t y => wX_intern_56 post (nI b) dm (nI st) ct br cl a1 a2 a3 a4 a5 a6 a7 a8 a9 a10 a11 a12 a13 n y (nI t)) (fun _ y => cv_pt st y) 168 0 x (by omega) hx (fun n y h => pk_le 168 168 (fun _ => cv_intern_92 hb hst hs H) (fun z => absurd z (by omega))) (fun n t y ht h hw => pk_le 168 t (fun z => absurd z (by omega)) (fun _ => br_c (fun _ => cv_intern_92 hb hst hs H) (fun e => ?_)))
  rcases h with h | ⟨m, hm, h⟩
  · exact absurd h e
  · subst h
    refine cv_isDraft (show m < 168 by omega) (br_t rfl ⟨pk_in m 168 (by omega), ?_⟩) (fun g => br_f (by decide) (H m st a1 a2 a3 a4 (by omega) (by omega) hm hs (cv_ext_rfl st a1 a2) g))
    rw [nI_clamp (by omega)]
    exact nm_e (nm_r (nI_1 t) (hw _ (hs.1 m hm)))
theorem cv_intern {post : Int32 → St2 → Prop} {st : Nat} (hst : st < 168) (hs : cv_sto st a3 a4)
    (H : ∀ i st' b1 b2 b3 b4, st ≤ st' → st' ≤ st + 1 → i < st' → cv_sto st' b3 b4 → cv_ext st a1 a2 b1 b2 → cv_is b1 b2 i dm a13 → post (nI i) (dm, nI st', ct, br, cl, b1, b2, b3, b4, a5, a6, a7, a8, a9, a10, a11, a12, a13)) :
    wpX_intern post (dm, nI st, ct, br, cl, a1, a2, a3, a4, a5, a6, a7, a8, a9, a10, a11, a12, a13) := by
  unfold wpX_intern
  refine pk_loop (fun n k y => wX_intern_7 post dm (nI st) ct br cl a1 a2 a3 a4 a5 a6 a7 a8 a9 a10 a11 a12 a13 n y (nI k)) (fun _ _ => True) 8 0 dm (by omega) trivial (fun n y _ => pk_le 8 8 (fun _ => fun x2 e2 => ?_) (fun z => absurd z (by omega))) (fun n k y hk _ hw => pk_le 8 k (fun z => absurd z (by omega)) (fun _ => ⟨pk_in k 8 hk, nm_e (nm_r (nI_1 k) (hw _ trivial))⟩))
  obtain ⟨b, hb, e⟩ := pk_andE ((y ^^^ ((y.toUInt32 >>> ((7 : Int32).toUInt32 &&& Int32.toUInt32 31)).toInt32)) ^^^ ((y.toUInt32 >>> ((19 : Int32).toUInt32 &&& Int32.toUInt32 31)).toInt32)) (m := 31) 5 (by decide)
  rw [e] at e2
  subst e2
  refine ⟨pk_in b 32 hb, ?_⟩
  rw [nI_clamp (by omega)]
  exact nm_e (cv_intern_56 hb hst hs (hs.2 b hb) H)
theorem cv_intern_2_108 {post : Int32 → St2 → Prop} {b st : Nat} (hb : b < 32) (hst : st < 168)
    (H : ∀ b2, (∀ q, q < 8 * st → b2 q = a2 q) → (∀ k, k < 8 → b2 (8 * st + k) = a13 k) → post (nI st) (dm, nI (st + 1), ct, br, cl, a1, b2, upd a3 st (a4 b), upd a4 b (nI st), a5, a6, a7, a8, a9, a10, a11, a12, a13)) :
    ∃ n, wX_intern_2_108 post (nI b) dm (nI st) ct br cl n 0 a1 a2 a3 a4 a5 a6 a7 a8 a9 a10 a11 a12 a13 := by
  refine pk_loop (fun n k t => wX_intern_2_108 post (nI b) dm (nI st) ct br cl n (nI k) a1 t a3 a4 a5 a6 a7 a8 a9 a10 a11 a12 a13) (fun k t => (∀ q, q < 8 * st → t q = a2 q) ∧ ∀ j, j < k → t (8 * st + j) = a13 j) 8 0 a2 (by omega) ⟨fun _ _ => rfl, fun j hj => absurd hj (by omega)⟩ (fun n t h => pk_le 8 8 (fun _ => ⟨pk_in b 32 hb, pk_in st 168 hst, ?_⟩) (fun z => absurd z (by omega))) (fun n k t hk h hw => pk_le 8 k (fun z => absurd z (by omega)) (fun _ => ⟨pk_in k 8 hk, cv_ixi (by omega) (by omega), ?_⟩))
  · rw [nI_clamp (show st < 2 ^ 31 by omega), nI_clamp (show b < 2 ^ 31 by omega)]
    refine nm_e ⟨pk_in b 32 hb, nm_e (nm_r (nI_1 st) ?_)⟩
    rw [nI_pred]
    exact H t h.1 h.2
  · rw [cv_ixc (by omega), nI_clamp (by omega)]
    refine nm_e (nm_r (nI_1 k) (hw _ ⟨fun q hq => ?_, cv_fill h.2 rfl⟩))
    rw [pk_un (by omega), h.1 q hq]
theorem cv_intern_2_92 {post : Int32 → St2 → Prop} {b st : Nat} (hb : b < 32) (hst : st < 168) (hs : cv_sto st a3 a4)
    (H : ∀ i st' b1 b2 b3 b4, st ≤ st' → st' ≤ st + 1 → i < st' → cv_sto st' b3 b4 → cv_ext st a1 a2 b1 b2 → cv_is b1 b2 i dm a13 → post (nI i) (dm, nI st', ct, br, cl, b1, b2, b3, b4, a5, a6, a7, a8, a9, a10, a11, a12, a13)) :
    wX_intern_2_92 post (nI b) dm (nI st) ct br cl a1 a2 a3 a4 a5 a6 a7 a8 a9 a10 a11 a12 a13 := by
  unfold wX_intern_2_92
  refine ⟨pk_in st 168 hst, ?_⟩
  rw [nI_clamp (show st < 2 ^ 31 by omega)]
  refine nm_e (cv_intern_2_108 hb hst (fun b2 h1 h2 => H st (st + 1) _ b2 _ _ (by omega) (by omega) (by omega) ⟨fun i hi => ?_, fun c hc => ?_⟩ ⟨fun i hi => pk_un (by omega), h1⟩ ⟨pk_us, h2⟩))
  · by_cases e : i = st
    · rw [e, pk_us]
      exact cv_pt_up (by omega) (hs.2 b hb)
    · rw [pk_un e]
      exact cv_pt_up (by omega) (hs.1 i (by omega))
  · by_cases e : c = b
    · rw [e, pk_us]
      exact Or.inr ⟨st, by omega, rfl⟩
    · rw [pk_un e]
      exact cv_pt_up (by omega) (hs.2 c hc)
theorem cv_intern_2_56 {post : Int32 → St2 → Prop} {b st : Nat} {x : Int32} (hb : b < 32) (hst : st < 168) (hs : cv_sto st a3 a4) (hx : cv_pt st x)
    (H : ∀ i st' b1 b2 b3 b4, st ≤ st' → st' ≤ st + 1 → i < st' → cv_sto st' b3 b4 → cv_ext st a1 a2 b1 b2 → cv_is b1 b2 i dm a13 → post (nI i) (dm, nI st', ct, br, cl, b1, b2, b3, b4, a5, a6, a7, a8, a9, a10, a11, a12, a13)) :
    ∃ n, wX_intern_2_56 post (nI b) dm (nI st) ct br cl a1 a2 a3 a4 a5 a6 a7 a8 a9 a10 a11 a12 a13 n x 0 := by
  refine pk_loop (fun n t y => wX_intern_2_56 post (nI b) dm (nI st) ct br cl a1 a2 a3 a4 a5 a6 a7 a8 a9 a10 a11 a12 a13 n y (nI t)) (fun _ y => cv_pt st y) 168 0 x (by omega) hx (fun n y h => pk_le 168 168 (fun _ => cv_intern_2_92 hb hst hs H) (fun z => absurd z (by omega))) (fun n t y ht h hw => pk_le 168 t (fun z => absurd z (by omega)) (fun _ => br_c (fun _ => cv_intern_2_92 hb hst hs H) (fun e => ?_)))
  rcases h with h | ⟨m, hm, h⟩
  · exact absurd h e
  · subst h
    refine cv_isDraft (show m < 168 by omega) (br_t rfl ⟨pk_in m 168 (by omega), ?_⟩) (fun g => br_f (by decide) (H m st a1 a2 a3 a4 (by omega) (by omega) hm hs (cv_ext_rfl st a1 a2) g))
    rw [nI_clamp (by omega)]
    exact nm_e (nm_r (nI_1 t) (hw _ (hs.1 m hm)))
theorem cv_intern_2 {post : Int32 → St2 → Prop} {st : Nat} (hst : st < 168) (hs : cv_sto st a3 a4)
    (H : ∀ i st' b1 b2 b3 b4, st ≤ st' → st' ≤ st + 1 → i < st' → cv_sto st' b3 b4 → cv_ext st a1 a2 b1 b2 → cv_is b1 b2 i dm a13 → post (nI i) (dm, nI st', ct, br, cl, b1, b2, b3, b4, a5, a6, a7, a8, a9, a10, a11, a12, a13)) :
    wpX_intern_2 post (dm, nI st, ct, br, cl, a1, a2, a3, a4, a5, a6, a7, a8, a9, a10, a11, a12, a13) := by
  unfold wpX_intern_2
  refine pk_loop (fun n k y => wX_intern_2_7 post dm (nI st) ct br cl a1 a2 a3 a4 a5 a6 a7 a8 a9 a10 a11 a12 a13 n y (nI k)) (fun _ _ => True) 8 0 dm (by omega) trivial (fun n y _ => pk_le 8 8 (fun _ => fun x2 e2 => ?_) (fun z => absurd z (by omega))) (fun n k y hk _ hw => pk_le 8 k (fun z => absurd z (by omega)) (fun _ => ⟨pk_in k 8 hk, nm_e (nm_r (nI_1 k) (hw _ trivial))⟩))
  obtain ⟨b, hb, e⟩ := pk_andE ((y ^^^ ((y.toUInt32 >>> ((7 : Int32).toUInt32 &&& Int32.toUInt32 31)).toInt32)) ^^^ ((y.toUInt32 >>> ((19 : Int32).toUInt32 &&& Int32.toUInt32 31)).toInt32)) (m := 31) 5 (by decide)
  rw [e] at e2
  subst e2
  refine ⟨pk_in b 32 hb, ?_⟩
  rw [nI_clamp (by omega)]
  exact nm_e (cv_intern_2_56 hb hst hs (hs.2 b hb) H)
end
end
section
section
variable {dm s ct br cl : Int32} {a1 a2 a3 a4 a5 a6 a7 a8 a9 a10 a11 a12 a13 : Nat → Int32}
/-- x is the number of a kept chunk that holds the mask m and the cells f -/
def cv_ch (st : Nat) (a1 a2 : Nat → Int32) (x m : Int32) (f : Nat → Int32) : Prop := ∃ i, i < st ∧ x = nI i ∧ cv_is a1 a2 i m f
theorem cv_ch_up {st st' : Nat} {x m : Int32} {a1 a2 b1 b2 f : Nat → Int32} (hs : st ≤ st') (h : cv_ext st a1 a2 b1 b2) (g : cv_ch st a1 a2 x m f) : cv_ch st' b1 b2 x m f := by
  obtain ⟨i, hi, e, g⟩ := g
  exact ⟨i, by omega, e, cv_is_up h hi g⟩
/-- place k of two chunks differs -/
def cv_ne (m m' : Int32) (f f' : Nat → Int32) (k : Nat) : Bool := (cv_bt m k ^^ cv_bt m' k) || decide (¬ f k = f' k)
theorem cv_ne_rfl (m : Int32) (f : Nat → Int32) (k : Nat) : cv_ne m m f f k = false := by
  unfold cv_ne
  rw [Bool.xor_self, decide_eq_false (fun h => h rfl)]
  rfl
theorem cv_isu {i : Nat} {m m' : Int32} {a1 a2 f f' : Nat → Int32} (h : cv_is a1 a2 i m f) (h' : cv_is a1 a2 i m' f') : m = m' ∧ ∀ k, k < 8 → f k = f' k :=
  ⟨by rw [← h.1, ← h'.1], fun k hk => by rw [← h.2 k hk, ← h'.2 k hk]⟩
theorem cv_ne_eq {m m' : Int32} {f f' : Nat → Int32} {k : Nat} (hm : m = m') (hf : f k = f' k) : cv_ne m m' f f' k = false := by
  unfold cv_ne
  rw [hm, Bool.xor_self, decide_eq_false (fun h => h hf)]
  rfl
theorem cv_difference_24 {post : Int32 → Prop} {i j : Nat} {d0 : Int32} (hi : i < 168) (hj : j < 168)
    (H : ∀ d, (∀ k, k < 8 → cv_bt d k = (cv_bt d0 k || decide (¬ a2 (8 * i + k) = a2 (8 * j + k)))) → post d) :
    ∃ n, wX_difference_24 post (nI i) (nI j) dm s ct br cl a1 a2 a3 a4 a5 a6 a7 a8 a9 a10 a11 a12 a13 n d0 0 := by
  refine pk_loop (fun n t d => wX_difference_24 post (nI i) (nI j) dm s ct br cl a1 a2 a3 a4 a5 a6 a7 a8 a9 a10 a11 a12 a13 n d (nI t)) (fun t d => ∀ k, k < 8 → cv_bt d k = (cv_bt d0 k || (decide (k < t) && decide (¬ a2 (8 * i + k) = a2 (8 * j + k))))) 8 0 d0 (by omega) (fun k hk => ?_) (fun n d h => pk_le 8 8 (fun _ => H d (fun k hk => ?_)) (fun z => absurd z (by omega))) (fun n t d ht h hw => pk_le 8 t (fun z => absurd z (by omega)) (fun _ => ⟨cv_ixi (by omega) (by omega), cv_ixi (by omega) (by omega), ?_⟩))
  · rw [decide_eq_false (show ¬ k < 0 by omega), Bool.false_and, Bool.or_false]
  · rw [h k hk, decide_eq_true hk, Bool.true_and]
  · rw [cv_ixc (by omega), cv_ixc (by omega)]
    refine br_c (fun e => nm_r (nI_1 t) (hw _ (fun k hk => ?_))) (fun e => nm_e (nm_r (nI_1 t) (hw _ (fun k hk => ?_))))
    · rw [h k hk]
      by_cases g : k = t
      · rw [g, decide_eq_false (p := ¬ a2 (8 * i + t) = a2 (8 * j + t)) (fun z => z e), Bool.and_false, Bool.and_false]
      · rw [show decide (k < t + 1) = decide (k < t) from decide_eq_decide.mpr ⟨fun z => by omega, fun z => by omega⟩]
    · rw [cv_b_or, h k hk, cv_b_one t ht k hk]
      by_cases g : k = t
      · rw [g, decide_eq_true rfl, decide_eq_true (show t < t + 1 by omega), decide_eq_true e, Bool.or_true, Bool.and_true, Bool.or_true]
      · rw [decide_eq_false g, Bool.or_false, show decide (k < t + 1) = decide (k < t) from decide_eq_decide.mpr ⟨fun z => by omega, fun z => by omega⟩]
theorem cv_difference {post : Int32 → Prop} {st : Nat} {x y m m' : Int32} {f f' : Nat → Int32} (hst : st ≤ 168) (hx : cv_ch st a1 a2 x m f) (hy : cv_ch st a1 a2 y m' f')
    (H : ∀ d, (∀ k, k < 8 → cv_bt d k = cv_ne m m' f f' k) → post d) : wpX_difference post (dm, s, ct, br, cl, a1, a2, a3, a4, a5, a6, a7, a8, a9, a10, a11, a12, a13) x y := by
  obtain ⟨i, hi, ei, gi⟩ := hx
  obtain ⟨j, hj, ej, gj⟩ := hy
  subst ei ej
  unfold wpX_difference
  refine pk_eq i j (fun e => H 0 (fun k hk => ?_)) (fun _ => ⟨pk_in i 168 (by omega), pk_in j 168 (by omega), ?_⟩)
  · subst e
    obtain ⟨e1, e2⟩ := cv_isu gi gj
    rw [cv_b_0, cv_ne_eq e1 (e2 k hk)]
  · rw [nI_clamp (by omega), nI_clamp (by omega)]
    refine nm_e (cv_difference_24 (by omega) (by omega) (fun d hd => H d (fun k hk => ?_)))
    rw [hd k hk, cv_b_xor, gi.1, gj.1, gi.2 k hk, gj.2 k hk]
    rfl
/-- place k of three chunks clashes: o the base, a ours, b theirs -/
def cv_clash (mo ma mb : Int32) (fo fa fb : Nat → Int32) (k : Nat) : Bool := (cv_ne ma mb fa fb k && cv_ne ma mo fa fo k) && cv_ne mb mo fb fo k
theorem cv_clashesIn {post : Int32 → Prop} {st : Nat} {x y z mo ma mb : Int32} {fo fa fb : Nat → Int32} (hst : st ≤ 168) (hx : cv_ch st a1 a2 x mo fo) (hy : cv_ch st a1 a2 y ma fa) (hz : cv_ch st a1 a2 z mb fb)
    (H : ∀ d, (∀ k, k < 8 → cv_bt d k = cv_clash mo ma mb fo fa fb k) → post d) : wpX_clashesIn post (dm, s, ct, br, cl, a1, a2, a3, a4, a5, a6, a7, a8, a9, a10, a11, a12, a13) x y z := by
  unfold wpX_clashesIn
  refine cv_difference hst hy hz (fun d1 h1 => cv_difference hst hy hx (fun d2 h2 => cv_difference hst hz hx (fun d3 h3 => H _ (fun k hk => ?_))))
  rw [cv_b_and, cv_b_and, h1 k hk, h2 k hk, h3 k hk]
  rfl
theorem cv_ones {post : Int32 → Prop} {x : Int32} (H : post (nI (cv_cnt (cv_bt x) 8))) : wpX_ones post () x := by
  unfold wpX_ones
  refine pk_loop (fun n t y => wX_ones_4 post x n y (nI t)) (fun t y => y = nI (cv_cnt (cv_bt x) t)) 8 0 0 (by omega) rfl (fun n y h => pk_le 8 8 (fun _ => ?_) (fun z => absurd z (by omega))) (fun n t y ht h hw => pk_le 8 t (fun z => absurd z (by omega)) (fun _ => ?_))
  · rw [h]
    exact H
  · refine nm_e (nm_r (nI_1 t) (hw _ ?_))
    rw [h, cv_bit x ht]
    show _ = nI (cv_cnt (cv_bt x) t + (if cv_bt x t then 1 else 0))
    rw [← nI_add]
    cases cv_bt x t
    · rfl
    · rfl
theorem cv_onesE {post : Int32 → Prop} {x : Int32} {p : Nat → Bool} (h : ∀ k, k < 8 → cv_bt x k = p k) (H : post (nI (cv_cnt p 8))) : wpX_ones post () x :=
  cv_ones (by rw [cv_cnt_ext 8 h]; exact H)
/-- row r of the commits holds the map mk, vl -/
def cv_row (st : Nat) (a1 a2 a5 : Nat → Int32) (r : Nat) (mk vl : Nat → Int32) : Prop := ∀ c, c < 8 → cv_ch st a1 a2 (a5 (8 * r + c)) (mk c) (fun k => vl (8 * c + k))
theorem cv_row_up {st st' r : Nat} {a1 a2 b1 b2 a5 b5 mk vl : Nat → Int32} (hs : st ≤ st') (h : cv_ext st a1 a2 b1 b2) (h5 : ∀ c, c < 8 → b5 (8 * r + c) = a5 (8 * r + c)) (g : cv_row st a1 a2 a5 r mk vl) : cv_row st' b1 b2 b5 r mk vl := fun c hc => by
  rw [h5 c hc]
  exact cv_ch_up hs h (g c hc)
/-- the clashes of chunk c of three maps -/
def cv_cl3 (mo ma mb vo va vb : Nat → Int32) (c k : Nat) : Bool := cv_clash (mo c) (ma c) (mb c) (fun k => vo (8 * c + k)) (fun k => va (8 * c + k)) (fun k => vb (8 * c + k)) k
theorem cv_countClashes {post : Int32 → Prop} {st o a b : Nat} {mo ma mb vo va vb : Nat → Int32} (hst : st ≤ 168) (ho : o < 20) (ha : a < 20) (hb : b < 20)
    (h1 : cv_row st a1 a2 a5 o mo vo) (h2 : cv_row st a1 a2 a5 a ma va) (h3 : cv_row st a1 a2 a5 b mb vb)
    (H : post (nI (cv_sum (fun c => cv_cnt (cv_cl3 mo ma mb vo va vb c) 8) 8))) : wpX_countClashes post (dm, s, ct, br, cl, a1, a2, a3, a4, a5, a6, a7, a8, a9, a10, a11, a12, a13) (nI o) (nI a) (nI b) := by
  unfold wpX_countClashes
  refine pk_loop (fun n t y => wX_countClashes_6 post (nI o) (nI a) (nI b) dm s ct br cl a1 a2 a3 a4 a5 a6 a7 a8 a9 a10 a11 a12 a13 n y (nI t)) (fun t y => y = nI (cv_sum (fun c => cv_cnt (cv_cl3 mo ma mb vo va vb c) 8) t)) 8 0 0 (by omega) rfl (fun n y h => pk_le 8 8 (fun _ => ?_) (fun z => absurd z (by omega))) (fun n t y ht h hw => pk_le 8 t (fun z => absurd z (by omega)) (fun _ => ⟨cv_ixi (by omega) (by omega), cv_ixi (by omega) (by omega), cv_ixi (by omega) (by omega), ?_⟩))
  · rw [h]
    exact H
  · rw [cv_ixc (by omega), cv_ixc (by omega), cv_ixc (by omega)]
    refine cv_clashesIn hst (h1 t ht) (h2 t ht) (h3 t ht) (fun d hd => cv_onesE hd ?_)
    refine nm_e (nm_r (nI_1 t) (hw _ ?_))
    rw [h, nI_add]
    rfl
theorem cv_differsFromWork {post : Int32 → Prop} {c i : Nat} (hc : c < 8) (hi : i < 168) (H : ∀ r, post r) : wpX_differsFromWork post (dm, s, ct, br, cl, a1, a2, a3, a4, a5, a6, a7, a8, a9, a10, a11, a12, a13) (nI c) (nI i) := by
  unfold wpX_differsFromWork
  refine pk_loop (fun n t y => wX_differsFromWork_5 post (nI c) (nI i) dm s ct br cl a1 a2 a3 a4 a5 a6 a7 a8 a9 a10 a11 a12 a13 n y (nI t)) (fun _ _ => True) 8 0 0 (by omega) trivial (fun n y _ => pk_le 8 8 (fun _ => H y) (fun z => absurd z (by omega))) (fun n t y ht _ hw => pk_le 8 t (fun z => absurd z (by omega)) (fun _ => ⟨pk_in c 8 hc, pk_in i 168 hi, br_c (fun _ => ?_) (fun _ => ?_)⟩))
  · unfold wX_differsFromWork_39
    exact br_f (by decide) (nm_e (nm_r (nI_1 t) (hw _ trivial)))
  · unfold wX_differsFromWork_39
    exact br_t rfl ⟨cv_ixi (by omega) (by omega), cv_ixi (by omega) (by omega), br_c (fun _ => nm_e (nm_r (nI_1 t) (hw _ trivial))) (fun _ => nm_e (nm_r (nI_1 t) (hw _ trivial)))⟩
/-- the working map's chunks are those of row h -/
def cv_cl (h : Nat) (a5 a12 : Nat → Int32) : Prop := ∀ c, c < 8 → a12 c = a5 (8 * h + c)
theorem cv_isClean {post : Int32 → Prop} {b h : Nat} (hb : b < 4) (hh : h < 20) (h9 : a9 b = nI h) (hc : cv_cl h a5 a12) (H : post 1) : wpX_isClean post (dm, s, ct, nI b, cl, a1, a2, a3, a4, a5, a6, a7, a8, a9, a10, a11, a12, a13) := by
  unfold wpX_isClean
  refine ⟨pk_in b 4 hb, ?_⟩
  rw [nI_clamp (by omega), h9]
  refine nm_e ?_
  refine pk_loop (σ := Unit) (fun n t _ => wX_isClean_12 post (nI h) dm s ct (nI b) cl a1 a2 a3 a4 a5 a6 a7 a8 a9 a10 a11 a12 a13 n (nI t)) (fun _ _ => True) 8 0 () (by omega) trivial (fun n _ _ => pk_le 8 8 (fun _ => H) (fun z => absurd z (by omega))) (fun n t _ ht _ hw => pk_le 8 t (fun z => absurd z (by omega)) (fun _ => ⟨cv_ixi (by omega) (by omega), ?_⟩))
  rw [cv_ixc (by omega)]
  refine nm_e ⟨pk_in t 8 ht, br_t ?_ (nm_r (nI_1 t) (hw () trivial))⟩
  rw [nI_clamp (by omega)]
  exact hc t ht
theorem cv_baseOf {post : Int32 → Prop} (h3 : a8 3 = 11) (h2 : a8 2 = 7) (H : post 1) : wpX_baseOf post (dm, s, ct, br, cl, a1, a2, a3, a4, a5, a6, a7, a8, a9, a10, a11, a12, a13) 3 2 := by
  unfold wpX_baseOf
  refine ⟨pk_in 3 20 (by omega), pk_in 2 20 (by omega), nm_r (e' := 3) ?_ (br_t (by decide) ⟨2, br_f (by decide) (br_t (by decide) (nm_r (e' := 1) (by decide) (br_f (by decide) (br_f (by decide) H))))⟩)⟩
  show a8 3 &&& a8 2 = 3
  rw [h3, h2]
  decide
end
end
section
section
variable {dm s ct br cl : Int32} {a1 a2 a3 a4 a5 a6 a7 a8 a9 a10 a11 a12 a13 : Nat → Int32}
theorem cv_ch_m1 {st : Nat} {x m : Int32} {f : Nat → Int32} (hst : st ≤ 168) (h : cv_ch st a1 a2 x m f) : ¬ x = -1 := by
  obtain ⟨i, hi, e, _⟩ := h
  subst e
  intro z
  have t : (nI i).toInt = (-1 : Int32).toInt := by rw [z]
  rw [nI_toInt (by omega)] at t
  have t2 : (-1 : Int32).toInt = -1 := by decide
  omega
theorem cv_ch_u {st : Nat} {x m m' : Int32} {f f' : Nat → Int32} (hst : st ≤ 168) (h : cv_ch st a1 a2 x m f) (h' : cv_ch st a1 a2 x m' f') : m = m' ∧ ∀ k, k < 8 → f k = f' k := by
  obtain ⟨i, hi, e, g⟩ := h
  obtain ⟨j, hj, e', g'⟩ := h'
  have t : i = j := (nI_eq (by omega) (by omega)).mp (by rw [← e, ← e'])
  subst t
  exact cv_isu g g'
/-- the working map's chunks: changed, or the same as the kept chunk that they name -/
def cv_wc (st : Nat) (a1 a2 a10 a11 a12 : Nat → Int32) : Prop := ∀ c, c < 8 → a12 c = -1 ∨ cv_ch st a1 a2 (a12 c) (a10 c) (fun k => a11 (8 * c + k))
theorem cv_takeChunk {post : St2 → Prop} {c i : Nat} (hc : c < 8) (hi : i < 168)
    (H : ∀ b11, (∀ k, k < 8 → b11 (8 * c + k) = a2 (8 * i + k)) → (∀ q, q < 8 * c ∨ 8 * c + 8 ≤ q → b11 q = a11 q) → post (dm, s, ct, br, cl, a1, a2, a3, a4, a5, a6, a7, a8, a9, upd a10 c (a1 i), b11, upd a12 c (nI i), a13)) :
    wpX_takeChunk post (dm, s, ct, br, cl, a1, a2, a3, a4, a5, a6, a7, a8, a9, a10, a11, a12, a13) (nI c) (nI i) := by
  unfold wpX_takeChunk
  refine ⟨pk_in i 168 hi, pk_in c 8 hc, ?_⟩
  rw [nI_clamp (show i < 2 ^ 31 by omega), nI_clamp (show c < 2 ^ 31 by omega)]
  refine nm_e ?_
  refine pk_loop (fun n k t => wX_takeChunk_14 post (nI c) (nI i) dm s ct br cl n (nI k) a1 a2 a3 a4 a5 a6 a7 a8 a9 (upd a10 c (a1 i)) t a12 a13) (fun k t => (∀ j, j < k → t (8 * c + j) = a2 (8 * i + j)) ∧ ∀ q, q < 8 * c ∨ 8 * c + 8 ≤ q → t q = a11 q) 8 0 a11 (by omega) ⟨fun j hj => absurd hj (by omega), fun _ _ => rfl⟩ (fun n t h => pk_le 8 8 (fun _ => ⟨pk_in c 8 hc, ?_⟩) (fun z => absurd z (by omega))) (fun n k t hk h hw => pk_le 8 k (fun z => absurd z (by omega)) (fun _ => ⟨cv_ixi (by omega) (by omega), cv_ixi (by omega) (by omega), ?_⟩))
  · rw [nI_clamp (show c < 2 ^ 31 by omega)]
    exact nm_e (H t h.1 h.2)
  · rw [cv_ixc (by omega), cv_ixc (by omega)]
    refine nm_e (nm_r (nI_1 k) (hw _ ⟨cv_fill (f := fun j => a2 (8 * i + j)) h.1 rfl, fun q hq => ?_⟩))
    rw [pk_un (by omega)]
    exact h.2 q hq
theorem cv_isCommit {post : Int32 → Prop} {n r : Nat} (hr : r < n) (hn : n ≤ 20) (H : post 1) : wpX_isCommit post (dm, s, nI n, br, cl, a1, a2, a3, a4, a5, a6, a7, a8, a9, a10, a11, a12, a13) (nI r) := by
  unfold wpX_isCommit
  exact br_f (nI_pos (by omega)) (br_f (nI_ge hr (by omega)) H)
theorem cv_checkout_14 {post : Int32 → St2 → Prop} {st r : Nat} {mk vl : Nat → Int32} (hst : st ≤ 168) (hr : r < 20) (hrow : cv_row st a1 a2 a5 r mk vl)
    (H : ∀ x b10 b11 b12, (∀ c, c < 8 → b10 c = mk c) → (∀ q, q < 64 → b11 q = vl q) → cv_cl r a5 b12 → post x (dm, s, ct, br, cl, a1, a2, a3, a4, a5, a6, a7, a8, a9, b10, b11, b12, a13)) :
    ∀ (m c : Nat) (x : Int32) (a10 a11 a12 : Nat → Int32), c + m = 8 → cv_wc st a1 a2 a10 a11 a12 → (∀ i, i < c → a10 i = mk i ∧ (∀ k, k < 8 → a11 (8 * i + k) = vl (8 * i + k)) ∧ a12 i = a5 (8 * r + i)) →
    wX_checkout_14 post (nI r) (m + 1) x (nI c) dm s ct br cl a1 a2 a3 a4 a5 a6 a7 a8 a9 a10 a11 a12 a13 := by
  intro m
  induction m with
  | zero =>
    intro c x a10 a11 a12 hm hw hd
    have e : c = 8 := by omega
    subst e
    refine pk_le 8 8 (fun _ => H x a10 a11 a12 (fun c hc => (hd c hc).1) (fun q hq => ?_) (fun c hc => (hd c hc).2.2)) (fun z => absurd z (by omega))
    have t := (hd (q / 8) (by omega)).2.1 (q % 8) (by omega)
    rw [show 8 * (q / 8) + q % 8 = q by omega] at t
    exact t
  | succ m ih =>
    intro c x a10 a11 a12 hm hw hd
    have hc : c < 8 := by omega
    refine pk_le 8 c (fun z => absurd z (by omega)) (fun _ => ⟨cv_ixi (by omega) (by omega), ?_⟩)
    rw [cv_ixc (by omega)]
    refine nm_e ⟨pk_in c 8 hc, ?_⟩
    rw [nI_clamp (show c < 2 ^ 31 by omega)]
    have hx := hrow c hc
    refine br_c (fun e => nm_r (nI_1 c) (ih (c + 1) x a10 a11 a12 (by omega) hw (fun i hi => ?_))) (fun e => ?_)
    · by_cases g : i = c
      · subst g
        rcases hw i hc with z | z
        · rw [e] at z
          exact absurd z (cv_ch_m1 hst hx)
        · rw [e] at z
          obtain ⟨e1, e2⟩ := cv_ch_u hst z hx
          exact ⟨e1, e2, e⟩
      · exact hd i (by omega)
    · obtain ⟨i, hi, ei, g1, g2⟩ := hx
      rw [ei]
      refine cv_differsFromWork hc (by omega) (fun r_9 => nm_e (cv_takeChunk hc (by omega) (fun b11 h1 h2 => nm_r (nI_1 c) (ih (c + 1) _ _ _ _ (by omega) (fun d hd8 => ?_) (fun d hdc => ?_)))))
      · by_cases g : d = c
        · subst g
          refine Or.inr ⟨i, hi, pk_us, ?_, fun k hk => ?_⟩
          · rw [pk_us]
          · exact (h1 k hk).symm
        · rw [pk_un g, pk_un g]
          rcases hw d hd8 with z | ⟨j, hj, ej, k1, k2⟩
          · exact Or.inl z
          · refine Or.inr ⟨j, hj, ej, k1, fun k hk => ?_⟩
            rw [k2 k hk]
            exact (h2 (8 * d + k) (by omega)).symm
      · by_cases g : d = c
        · subst g
          refine ⟨by rw [pk_us, g1], fun k hk => ?_, by rw [pk_us, ei]⟩
          rw [h1 k hk, g2 k hk]
        · obtain ⟨k1, k2, k3⟩ := hd d (by omega)
          refine ⟨by rw [pk_un g, k1], fun k hk => ?_, by rw [pk_un g, k3]⟩
          rw [h2 (8 * d + k) (by omega), k2 k hk]
theorem cv_checkout {post : Int32 → St2 → Prop} {st n r : Nat} {mk vl : Nat → Int32} (hst : st ≤ 168) (hr : r < n) (hn : n ≤ 20) (hrow : cv_row st a1 a2 a5 r mk vl) (hw : cv_wc st a1 a2 a10 a11 a12)
    (H : ∀ x b10 b11 b12, (∀ c, c < 8 → b10 c = mk c) → (∀ q, q < 64 → b11 q = vl q) → cv_cl r a5 b12 → post x (dm, s, nI n, br, cl, a1, a2, a3, a4, a5, a6, a7, a8, a9, b10, b11, b12, a13)) :
    wpX_checkout post (dm, s, nI n, br, cl, a1, a2, a3, a4, a5, a6, a7, a8, a9, a10, a11, a12, a13) (nI r) := by
  unfold wpX_checkout
  exact cv_isCommit hr hn (br_f (by decide) ⟨9, cv_checkout_14 hst (by omega) hrow H 8 0 0 a10 a11 a12 (by omega) hw (fun i hi => absurd hi (by omega))⟩)
theorem cv_isKey {post : Int32 → Prop} {k : Nat} (hk : k < 64) (H : post 1) : wpX_isKey post () (nI k) := by
  unfold wpX_isKey
  exact br_f (nI_pos (by omega)) (br_f (nI_ge (b := 64) hk (by decide)) H)
theorem cv_isBranch {post : Int32 → Prop} {k : Nat} (hk : k < 4) (H : post 1) : wpX_isBranch post () (nI k) := by
  unfold wpX_isBranch
  exact br_f (nI_pos (by omega)) (br_f (nI_ge (b := 4) hk (by decide)) H)
theorem cv_put {post : Int32 → St2 → Prop} {k : Nat} {v : Int32} (hk : k < 64)
    (H : ∀ r, post r (dm, s, ct, br, cl, a1, a2, a3, a4, a5, a6, a7, a8, a9, upd a10 (k / 8) (a10 (k / 8) ||| ((1 : Int32) <<< (nI (k % 8) &&& 31))), upd a11 k v, upd a12 (k / 8) (-1), a13)) : wpX_put post (dm, s, ct, br, cl, a1, a2, a3, a4, a5, a6, a7, a8, a9, a10, a11, a12, a13) (nI k) v := by
  unfold wpX_put
  have h38 : ∀ z0, wX_put_38 post (nI k) v (nI (k / 8)) ((1 : Int32) <<< (nI (k % 8) &&& 31)) z0 dm s ct br cl a1 a2 a3 a4 a5 a6 a7 a8 a9 a10 a11 a12 a13 := by
    intro z0
    unfold wX_put_38
    rw [nI_clamp (show k / 8 < 2 ^ 31 by omega), nI_clamp (show k < 2 ^ 31 by omega)]
    exact ⟨pk_in (k / 8) 8 (by omega), pk_in (k / 8) 8 (by omega), nm_e ⟨pk_in k 64 hk, nm_e ⟨pk_in (k / 8) 8 (by omega), nm_e (H z0)⟩⟩⟩
  refine cv_isKey hk (br_f (by decide) (nm_r (e' := nI (k / 8)) (pk_shrN (by omega) _ 3 (by decide)) (nm_r (e' := (1 : Int32) <<< (nI (k % 8) &&& 31)) ?_ ⟨pk_in (k / 8) 8 (by omega), br_c (fun _ => h38 1) (fun _ => h38 0)⟩)))
  rw [pk_andN (by omega) 3 (by decide)]
theorem cv_settle_30 {post : St2 → Prop} {J2 : Int32 → Int32 → Int32 → Int32 → Int32 → Int32 → (Nat → Int32) → (Nat → Int32) → (Nat → Int32) → (Nat → Int32) → (Nat → Int32) → (Nat → Int32) → (Nat → Int32) → (Nat → Int32) → (Nat → Int32) → (Nat → Int32) → (Nat → Int32) → (Nat → Int32) → (Nat → Int32) → Prop} {c st : Nat} (hc : c < 8) (hst : st < 168) (hs : cv_sto st a3 a4)
    (H : ∀ i st' b1 b2 b3 b4 b13, st ≤ st' → st' ≤ st + 1 → i < st' → cv_sto st' b3 b4 → cv_ext st a1 a2 b1 b2 → cv_is b1 b2 i dm (fun k => a11 (8 * c + k)) → J2 (nI (c + 1)) dm (nI st') ct br cl b1 b2 b3 b4 a5 a6 a7 a8 a9 a10 a11 (upd a12 c (nI i)) b13) :
    ∃ n, wX_settleWork_30 post J2 (nI c) dm (nI st) ct br cl n 0 a1 a2 a3 a4 a5 a6 a7 a8 a9 a10 a11 a12 a13 := by
  refine pk_loop (fun n k t => wX_settleWork_30 post J2 (nI c) dm (nI st) ct br cl n (nI k) a1 a2 a3 a4 a5 a6 a7 a8 a9 a10 a11 a12 t) (fun k t => ∀ j, j < k → t j = a11 (8 * c + j)) 8 0 a13 (by omega) (fun j hj => absurd hj (by omega)) (fun n t h => pk_le 8 8 (fun _ => ?_) (fun z => absurd z (by omega))) (fun n k t hk h hw => pk_le 8 k (fun z => absurd z (by omega)) (fun _ => ⟨cv_ixi (by omega) (by omega), pk_in k 8 hk, ?_⟩))
  · refine cv_intern_2 hst hs (fun i st' b1 b2 b3 b4 g1 g2 g3 g4 g5 g6 => And.intro (pk_in c 8 hc) ?_)
    rw [nI_clamp (show c < 2 ^ 31 by omega)]
    exact nm_e (nm_r (nI_1 c) (H i st' b1 b2 b3 b4 t g1 g2 g3 g4 g5 ⟨g6.1, fun k hk => by rw [g6.2 k hk, h k hk]⟩))
  · rw [cv_ixc (by omega), nI_clamp (show k < 2 ^ 31 by omega)]
    exact nm_e (nm_r (nI_1 k) (hw _ (cv_fill0 (f := fun j => a11 (8 * c + j)) h rfl)))
theorem cv_settle_2 {post : St2 → Prop} : ∀ (m c st : Nat) (dm : Int32) (a1 a2 a3 a4 a12 a13 : Nat → Int32), c + m = 8 → st + m ≤ 168 → cv_sto st a3 a4 → cv_wc st a1 a2 a10 a11 a12 → (∀ i, i < c → ¬ a12 i = -1) →
    (∀ dm' st' b1 b2 b3 b4 b12 b13, st ≤ st' → st' ≤ st + m → cv_sto st' b3 b4 → cv_ext st a1 a2 b1 b2 → (∀ i, i < 8 → cv_ch st' b1 b2 (b12 i) (a10 i) (fun k => a11 (8 * i + k))) → post (dm', nI st', ct, br, cl, b1, b2, b3, b4, a5, a6, a7, a8, a9, a10, a11, b12, b13)) →
    wX_settleWork_2 post (m + 1) (nI c) dm (nI st) ct br cl a1 a2 a3 a4 a5 a6 a7 a8 a9 a10 a11 a12 a13 := by
  intro m
  induction m with
  | zero =>
    intro c st dm a1 a2 a3 a4 a12 a13 hm hst hs hw hd H
    have e : c = 8 := by omega
    subst e
    refine pk_le 8 8 (fun _ => H dm st a1 a2 a3 a4 a12 a13 (by omega) (by omega) hs (cv_ext_rfl st a1 a2) (fun i hi => ?_)) (fun z => absurd z (by omega))
    rcases hw i hi with z | z
    · exact absurd z (hd i hi)
    · exact z
  | succ m ih =>
    intro c st dm a1 a2 a3 a4 a12 a13 hm hst hs hw hd H
    have hc : c < 8 := by omega
    refine pk_le 8 c (fun z => absurd z (by omega)) (fun _ => ⟨pk_in c 8 hc, ?_⟩)
    rw [nI_clamp (show c < 2 ^ 31 by omega)]
    refine br_c (fun e => ⟨pk_in c 8 hc, nm_e ?_⟩) (fun e => nm_r (nI_1 c) (ih (c + 1) st dm a1 a2 a3 a4 a12 a13 (by omega) (by omega) hs hw (fun i hi => ?_) (fun dm' st' b1 b2 b3 b4 b12 b13 g1 g2 => H dm' st' b1 b2 b3 b4 b12 b13 g1 (by omega))))
    · refine cv_settle_30 hc (by omega) hs (fun i st' b1 b2 b3 b4 b13 g1 g2 g3 g4 g5 g6 => ?_)
      refine ih (c + 1) st' _ b1 b2 b3 b4 _ b13 (by omega) (by omega) g4 (fun d hd8 => ?_) (fun d hdc => ?_) (fun dm' st'' c1 c2 c3 c4 c12 c13 k1 k2 k3 k4 k5 => H dm' st'' c1 c2 c3 c4 c12 c13 (by omega) (by omega) k3 (cv_ext_tr g1 g5 k4) k5)
      · by_cases g : d = c
        · subst g
          exact Or.inr ⟨i, g3, pk_us, g6⟩
        · rw [pk_un g]
          rcases hw d hd8 with z | z
          · exact Or.inl z
          · exact Or.inr (cv_ch_up g1 g5 z)
      · by_cases g : d = c
        · subst g
          rw [pk_us]
          exact cv_ch_m1 (st := st') (by omega) ⟨i, g3, rfl, g6⟩
        · rw [pk_un g]
          exact hd d (by omega)
    · by_cases g : i = c
      · rw [g]
        exact e
      · exact hd i (by omega)
theorem cv_settle {post : St2 → Prop} {st : Nat} (hst : st + 8 ≤ 168) (hs : cv_sto st a3 a4) (hw : cv_wc st a1 a2 a10 a11 a12)
    (H : ∀ dm' st' b1 b2 b3 b4 b12 b13, st ≤ st' → st' ≤ st + 8 → cv_sto st' b3 b4 → cv_ext st a1 a2 b1 b2 → (∀ i, i < 8 → cv_ch st' b1 b2 (b12 i) (a10 i) (fun k => a11 (8 * i + k))) → post (dm', nI st', ct, br, cl, b1, b2, b3, b4, a5, a6, a7, a8, a9, a10, a11, b12, b13)) :
    wpX_settleWork post (dm, nI st, ct, br, cl, a1, a2, a3, a4, a5, a6, a7, a8, a9, a10, a11, a12, a13) := by
  unfold wpX_settleWork
  exact ⟨9, cv_settle_2 8 0 st dm a1 a2 a3 a4 a12 a13 (by omega) hst hs hw (fun i hi => absurd hi (by omega)) H⟩
theorem cv_enter_72 {post : St2 → Prop} {n b : Nat} (hb : b < 4) (H : post (dm, s, nI (n + 1), nI b, cl, a1, a2, a3, a4, a5, a6, a7, a8, upd a9 b (nI n), a10, a11, a12, a13)) : wX_enter_72 post dm s (nI n) (nI b) cl a1 a2 a3 a4 a5 a6 a7 a8 a9 a10 a11 a12 a13 := by
  unfold wX_enter_72
  rw [nI_clamp (show b < 2 ^ 31 by omega)]
  exact ⟨pk_in b 4 hb, nm_e (nm_r (nI_1 n) H)⟩
theorem cv_enter1 {post : St2 → Prop} {n b p : Nat} (hn : n < 20) (hb : b < 4) (hp : p < 20)
    (H : ∀ b6 b7, post (dm, s, nI (n + 1), nI b, cl, a1, a2, a3, a4, a5, b6, b7, upd a8 n (a8 p ||| ((1 : Int32) <<< (nI n &&& 31))), upd a9 b (nI n), a10, a11, a12, a13)) :
    wpX_enter post (dm, s, nI n, nI b, cl, a1, a2, a3, a4, a5, a6, a7, a8, a9, a10, a11, a12, a13) (nI p) (-1) := by
  unfold wpX_enter
  refine ⟨pk_in n 20 hn, nm_e ⟨pk_in n 20 hn, nm_e ⟨pk_in p 20 hp, pk_in n 20 hn, ?_⟩⟩⟩
  rw [nI_clamp (show p < 2 ^ 31 by omega), nI_clamp (show n < 2 ^ 31 by omega)]
  exact nm_e (br_t rfl (cv_enter_72 hb (H _ _)))
theorem cv_enter2 {post : St2 → Prop} {n b p q : Nat} (hn : n < 20) (hb : b < 4) (hp : p < 20) (hq : q < 20)
    (H : ∀ b6 b7 b8, post (dm, s, nI (n + 1), nI b, cl, a1, a2, a3, a4, a5, b6, b7, b8, upd a9 b (nI n), a10, a11, a12, a13)) :
    wpX_enter post (dm, s, nI n, nI b, cl, a1, a2, a3, a4, a5, a6, a7, a8, a9, a10, a11, a12, a13) (nI p) (nI q) := by
  unfold wpX_enter
  exact ⟨pk_in n 20 hn, nm_e ⟨pk_in n 20 hn, nm_e ⟨pk_in p 20 hp, pk_in n 20 hn, nm_e (br_c (fun _ => cv_enter_72 hb (H _ _ _)) (fun _ => ⟨pk_in n 20 hn, pk_in q 20 hq, pk_in n 20 hn, nm_e (cv_enter_72 hb (H _ _ _))⟩))⟩⟩⟩
theorem cv_commit {post : Int32 → St2 → Prop} {st n b h : Nat} (hst : st + 8 ≤ 168) (hn : n < 20) (hb : b < 4) (hs : cv_sto st a3 a4) (hw : cv_wc st a1 a2 a10 a11 a12) (h9 : a9 b = nI h) (hh : h < 20)
    (H : ∀ dm' st' b1 b2 b3 b4 b5 b6 b7 b12 b13, st ≤ st' → st' ≤ st + 8 → cv_sto st' b3 b4 → cv_ext st a1 a2 b1 b2 → (∀ q, q < 8 * n → b5 q = a5 q) → (∀ i, i < 8 → cv_ch st' b1 b2 (b12 i) (a10 i) (fun k => a11 (8 * i + k))) → cv_cl n b5 b12 →
      post (nI n) (dm', nI st', nI (n + 1), nI b, cl, b1, b2, b3, b4, b5, b6, b7, upd a8 n (a8 h ||| ((1 : Int32) <<< (nI n &&& 31))), upd a9 b (nI n), a10, a11, b12, b13)) :
    wpX_commit post (dm, nI st, nI n, nI b, cl, a1, a2, a3, a4, a5, a6, a7, a8, a9, a10, a11, a12, a13) := by
  unfold wpX_commit
  refine pk_eq n 20 (fun z => absurd z (by omega)) (fun _ => ?_)
  refine cv_settle hst hs hw (fun dm' st' b1 b2 b3 b4 b12 b13 g1 g2 g3 g4 g5 => ?_)
  refine pk_loop (fun n' k t => wX_commit_17 post dm' (nI st') (nI n) (nI b) cl n' (nI k) b1 b2 b3 b4 t a6 a7 a8 a9 a10 a11 b12 b13) (fun k t => (∀ q, q < 8 * n → t q = a5 q) ∧ ∀ j, j < k → t (8 * n + j) = b12 j) 8 0 a5 (by omega) ⟨fun _ _ => rfl, fun j hj => absurd hj (by omega)⟩ (fun n' t g => pk_le 8 8 (fun _ => ⟨pk_in b 4 hb, ?_⟩) (fun z => absurd z (by omega))) (fun n' k t hk g hw' => pk_le 8 k (fun z => absurd z (by omega)) (fun _ => ⟨pk_in k 8 hk, cv_ixi (by omega) (by omega), ?_⟩))
  · rw [nI_clamp (show b < 2 ^ 31 by omega), h9]
    refine cv_enter1 hn hb hh (fun b6 b7 => ?_)
    show post (nI (n + 1) - 1) _
    rw [nI_pred]
    exact H dm' st' b1 b2 b3 b4 t b6 b7 b12 b13 g1 g2 g3 g4 g.1 g5 (fun c hc => (g.2 c hc).symm)
  · rw [cv_ixc (by omega), nI_clamp (show k < 2 ^ 31 by omega)]
    refine nm_e (nm_r (nI_1 k) (hw' _ ⟨fun q hq => ?_, cv_fill g.2 rfl⟩))
    rw [pk_un (by omega), g.1 q hq]
theorem cv_branch {post : Int32 → St2 → Prop} {b p : Nat} (hb : b < 4) (hp : p < 4) (hne : p ≠ b) (H : post (a9 p) (dm, s, ct, nI b, cl, a1, a2, a3, a4, a5, a6, a7, a8, upd a9 p (a9 b), a10, a11, a12, a13)) : wpX_branch post (dm, s, ct, nI b, cl, a1, a2, a3, a4, a5, a6, a7, a8, a9, a10, a11, a12, a13) (nI p) := by
  unfold wpX_branch
  refine cv_isBranch hp (br_f (by decide) (pk_eq p b (fun z => absurd z hne) (fun _ => ⟨pk_in p 4 hp, nm_e ⟨pk_in b 4 hb, pk_in p 4 hp, ?_⟩⟩)))
  rw [nI_clamp (show p < 2 ^ 31 by omega), nI_clamp (show b < 2 ^ 31 by omega)]
  exact nm_e H
theorem cv_change {post : Int32 → St2 → Prop} {st n b p h r : Nat} {mk vl : Nat → Int32} (hst : st ≤ 168) (hn : n ≤ 20) (hb : b < 4) (hp : p < 4) (h9 : a9 b = nI h) (hh : h < 20) (hc : cv_cl h a5 a12) (h9p : a9 p = nI r) (hr : r < n)
    (hrow : cv_row st a1 a2 a5 r mk vl) (hw : cv_wc st a1 a2 a10 a11 a12)
    (H : ∀ b10 b11 b12, (∀ c, c < 8 → b10 c = mk c) → (∀ q, q < 64 → b11 q = vl q) → cv_cl r a5 b12 → post (nI r) (dm, s, nI n, nI p, cl, a1, a2, a3, a4, a5, a6, a7, a8, a9, b10, b11, b12, a13)) :
    wpX_change post (dm, s, nI n, nI b, cl, a1, a2, a3, a4, a5, a6, a7, a8, a9, a10, a11, a12, a13) (nI p) := by
  unfold wpX_change
  refine cv_isBranch hp (br_f (by decide) (cv_isClean hb hh h9 hc (br_f (by decide) ⟨pk_in p 4 hp, ?_⟩)))
  rw [nI_clamp (show p < 2 ^ 31 by omega), h9p]
  refine cv_checkout hst hr hn hrow hw (fun x b10 b11 b12 g1 g2 g3 => And.intro (pk_in p 4 hp) ?_)
  show post (a9 p) _
  rw [h9p]
  exact H b10 b11 b12 g1 g2 g3
end
end
section
section
variable {dm s ct br cl : Int32} {a1 a2 a3 a4 a5 a6 a7 a8 a9 a10 a11 a12 a13 : Nat → Int32}
/-- is place k of the merged chunk theirs? -/
def cv_ft (w : Bool) (mo ma mb : Int32) (fo fa fb : Nat → Int32) (k : Nat) : Bool := (cv_ne mb mo fb fo k && !cv_ne ma mo fa fo k) || (w && cv_clash mo ma mb fo fa fb k)
/-- place k of the merged chunk -/
def cv_mg (w : Bool) (mo ma mb : Int32) (fo fa fb : Nat → Int32) (k : Nat) : Int32 := if cv_ft w mo ma mb fo fa fb k then fb k else fa k
theorem cv_ne_f {m m' : Int32} {f f' : Nat → Int32} {k : Nat} (h : cv_ne m m' f f' k = false) : f k = f' k := by
  unfold cv_ne at h
  rw [Bool.or_eq_false_iff] at h
  have h2 := of_decide_eq_false h.2
  exact Decidable.of_not_not h2
theorem cv_mg1 {w : Bool} {mo ma mb : Int32} {fo fa fb : Nat → Int32} {k : Nat} (hm : ma = mo) (hf : fa k = fo k) : cv_clash mo ma mb fo fa fb k = false ∧ cv_mg w mo ma mb fo fa fb k = fb k := by
  have e : cv_ne ma mo fa fo k = false := cv_ne_eq hm hf
  have c : cv_clash mo ma mb fo fa fb k = false := by
    unfold cv_clash
    rw [e, Bool.and_false, Bool.false_and]
  refine ⟨c, ?_⟩
  unfold cv_mg cv_ft
  rw [c, e, Bool.and_false, Bool.or_false, Bool.not_false, Bool.and_true]
  by_cases g : cv_ne mb mo fb fo k = true
  · rw [if_pos g]
  · rw [if_neg g, hf]
    exact (cv_ne_f (Bool.eq_false_iff.mpr g)).symm
theorem cv_mg2 {w : Bool} {mo ma mb : Int32} {fo fa fb : Nat → Int32} {k : Nat} (hm : mb = mo) (hf : fb k = fo k) : cv_clash mo ma mb fo fa fb k = false ∧ cv_mg w mo ma mb fo fa fb k = fa k := by
  have e : cv_ne mb mo fb fo k = false := cv_ne_eq hm hf
  have c : cv_clash mo ma mb fo fa fb k = false := by
    unfold cv_clash
    rw [e, Bool.and_false]
  refine ⟨c, ?_⟩
  unfold cv_mg cv_ft
  rw [c, e, Bool.and_false, Bool.or_false, Bool.false_and]
  exact if_neg (by decide)
theorem cv_mg3 {w : Bool} {mo ma mb : Int32} {fo fa fb : Nat → Int32} {k : Nat} (hm : mb = ma) (hf : fb k = fa k) : cv_clash mo ma mb fo fa fb k = false ∧ cv_mg w mo ma mb fo fa fb k = fa k := by
  have e : cv_ne ma mb fa fb k = false := cv_ne_eq hm.symm hf.symm
  have c : cv_clash mo ma mb fo fa fb k = false := by
    unfold cv_clash
    rw [e, Bool.false_and, Bool.false_and]
  refine ⟨c, ?_⟩
  unfold cv_mg
  by_cases g : cv_ft w mo ma mb fo fa fb k = true
  · rw [if_pos g, hf]
  · rw [if_neg g]
theorem cv_jc_86 {post : Int32 → St2 → Prop} {st i j : Nat} {z : Int32} (hst : st < 168) (hi : i < 168) (hj : j < 168) (hs : cv_sto st a3 a4)
    (H : ∀ c st' b1 b2 b3 b4 b13, st ≤ st' → st' ≤ st + 1 → c < st' → cv_sto st' b3 b4 → cv_ext st a1 a2 b1 b2 → cv_is b1 b2 c dm (fun k => if cv_bt z k then a2 (8 * j + k) else a2 (8 * i + k)) → post (nI c) (dm, nI st', ct, br, cl, b1, b2, b3, b4, a5, a6, a7, a8, a9, a10, a11, a12, b13)) :
    ∃ n, wX_joinChunks_86 post (nI i) (nI j) z dm (nI st) ct br cl n 0 a1 a2 a3 a4 a5 a6 a7 a8 a9 a10 a11 a12 a13 := by
  refine pk_loop (fun n k t => wX_joinChunks_86 post (nI i) (nI j) z dm (nI st) ct br cl n (nI k) a1 a2 a3 a4 a5 a6 a7 a8 a9 a10 a11 a12 t) (fun k t => ∀ q, q < k → t q = if cv_bt z q then a2 (8 * j + q) else a2 (8 * i + q)) 8 0 a13 (by omega) (fun q hq => absurd hq (by omega)) (fun n t h => pk_le 8 8 (fun _ => ?_) (fun z => absurd z (by omega))) (fun n k t hk h hw => pk_le 8 k (fun z => absurd z (by omega)) (fun _ => ek_if (cv_bitT z hk) (fun g => ?_) (fun g => ?_)))
  · refine cv_intern hst hs (fun c st' b1 b2 b3 b4 g1 g2 g3 g4 g5 g6 => H c st' b1 b2 b3 b4 t g1 g2 g3 g4 g5 ⟨g6.1, fun k hk => ?_⟩)
    rw [g6.2 k hk, h k hk]
  · unfold wX_joinChunks_109
    rw [cv_ixc (show 8 * j + k < 2 ^ 31 by omega), nI_clamp (show k < 2 ^ 31 by omega)]
    exact br_f (by decide) ⟨cv_ixi (by omega) (by omega), pk_in k 8 hk, nm_e (nm_r (nI_1 k) (hw _ (cv_fill0 (f := fun q => if cv_bt z q then a2 (8 * j + q) else a2 (8 * i + q)) h (if_pos g).symm)))⟩
  · unfold wX_joinChunks_109
    rw [cv_ixc (show 8 * i + k < 2 ^ 31 by omega), nI_clamp (show k < 2 ^ 31 by omega)]
    exact br_t rfl ⟨cv_ixi (by omega) (by omega), pk_in k 8 hk, nm_e (nm_r (nI_1 k) (hw _ (cv_fill0 (f := fun q => if cv_bt z q then a2 (8 * j + q) else a2 (8 * i + q)) h (if_neg g).symm)))⟩
theorem cv_joinChunks {post : Int32 → St2 → Prop} {st : Nat} {side x y z mo ma mb : Int32} {fo fa fb : Nat → Int32} (hst : st < 168) (hs : cv_sto st a3 a4) (hx : cv_ch st a1 a2 x mo fo) (hy : cv_ch st a1 a2 y ma fa) (hz : cv_ch st a1 a2 z mb fb)
    (H : ∀ i dm' st' b1 b2 b3 b4 b13, st ≤ st' → st' ≤ st + 1 → i < st' → cv_sto st' b3 b4 → cv_ext st a1 a2 b1 b2 → (∀ k, k < 8 → b2 (8 * i + k) = cv_mg (decide (side = 1)) mo ma mb fo fa fb k) →
      post (nI i) (dm', nI st', ct, br, cl + nI (cv_cnt (cv_clash mo ma mb fo fa fb) 8), b1, b2, b3, b4, a5, a6, a7, a8, a9, a10, a11, a12, b13)) :
    wpX_joinChunks post (dm, nI st, ct, br, cl, a1, a2, a3, a4, a5, a6, a7, a8, a9, a10, a11, a12, a13) x y z side := by
  unfold wpX_joinChunks
  refine cv_clashesIn (st := st) (by omega) hx hy hz (fun d1 h1 => cv_difference (st := st) (by omega) hz hx (fun d2 h2 => cv_difference (st := st) (by omega) hy hx (fun d3 h3 => nm_e ?_)))
  have h42 : ∀ w, (∀ k, k < 8 → cv_bt w k = cv_ft (decide (side = 1)) mo ma mb fo fa fb k) → wX_joinChunks_42 post y z d1 w dm (nI st) ct br cl a1 a2 a3 a4 a5 a6 a7 a8 a9 a10 a11 a12 a13 := by
    intro w hw
    obtain ⟨i, hi, ei, gi⟩ := hy
    obtain ⟨j, hj, ej, gj⟩ := hz
    subst ei ej
    unfold wX_joinChunks_42
    refine cv_onesE h1 (nm_e ⟨pk_in i 168 (by omega), pk_in j 168 (by omega), nm_e (cv_jc_86 hst (by omega) (by omega) hs (fun c st' b1 b2 b3 b4 b13 g1 g2 g3 g4 g5 g6 => H c _ st' b1 b2 b3 b4 b13 g1 g2 g3 g4 g5 (fun k hk => ?_)))⟩)
    rw [g6.2 k hk]
    show (if cv_bt w k = true then a2 (8 * j + k) else a2 (8 * i + k)) = _
    rw [hw k hk, gi.2 k hk, gj.2 k hk]
    rfl
  have hn : ∀ k, k < 8 → cv_bt (d2 &&& (d3 ^^^ (-1))) k = (cv_ne mb mo fb fo k && !cv_ne ma mo fa fo k) := by
    intro k hk
    rw [cv_b_and, cv_b_xor, cv_b_m1 k (by omega), h2 k hk, h3 k hk, Bool.xor_true]
  refine br_c (fun e => h42 _ (fun k hk => ?_)) (fun e => h42 _ (fun k hk => ?_))
  · rw [cv_b_or, hn k hk, h1 k hk, decide_eq_true e]
    unfold cv_ft
    rw [Bool.true_and]
  · rw [hn k hk, decide_eq_false e]
    unfold cv_ft
    rw [Bool.false_and, Bool.or_false]
/-- x is the number of a kept chunk with the cells f -/
def cv_cv (st : Nat) (a2 : Nat → Int32) (x : Int32) (f : Nat → Int32) : Prop := ∃ i, i < st ∧ x = nI i ∧ ∀ k, k < 8 → a2 (8 * i + k) = f k
theorem cv_cv_up {st st' : Nat} {x : Int32} {a1 a2 b1 b2 f : Nat → Int32} (hs : st ≤ st') (h : cv_ext st a1 a2 b1 b2) (g : cv_cv st a2 x f) : cv_cv st' b2 x f := by
  obtain ⟨i, hi, e, g⟩ := g
  exact ⟨i, by omega, e, fun k hk => by rw [h.2 (8 * i + k) (by omega), g k hk]⟩
/-- chunk c of the merged map -/
def cv_mg3c (w : Bool) (mo ma mb vo va vb : Nat → Int32) (c k : Nat) : Int32 := cv_mg w (mo c) (ma c) (mb c) (fun k => vo (8 * c + k)) (fun k => va (8 * c + k)) (fun k => vb (8 * c + k)) k
theorem cv_mgc1 {w : Bool} {mo ma mb vo va vb : Nat → Int32} {c k : Nat} (hm : ma c = mo c) (hf : va (8 * c + k) = vo (8 * c + k)) : cv_cl3 mo ma mb vo va vb c k = false ∧ cv_mg3c w mo ma mb vo va vb c k = vb (8 * c + k) :=
  cv_mg1 (fo := fun k => vo (8 * c + k)) (fa := fun k => va (8 * c + k)) (fb := fun k => vb (8 * c + k)) hm hf
theorem cv_mgc2 {w : Bool} {mo ma mb vo va vb : Nat → Int32} {c k : Nat} (hm : mb c = mo c) (hf : vb (8 * c + k) = vo (8 * c + k)) : cv_cl3 mo ma mb vo va vb c k = false ∧ cv_mg3c w mo ma mb vo va vb c k = va (8 * c + k) :=
  cv_mg2 (fo := fun k => vo (8 * c + k)) (fa := fun k => va (8 * c + k)) (fb := fun k => vb (8 * c + k)) hm hf
theorem cv_mgc3 {w : Bool} {mo ma mb vo va vb : Nat → Int32} {c k : Nat} (hm : mb c = ma c) (hf : vb (8 * c + k) = va (8 * c + k)) : cv_cl3 mo ma mb vo va vb c k = false ∧ cv_mg3c w mo ma mb vo va vb c k = va (8 * c + k) :=
  cv_mg3 (fo := fun k => vo (8 * c + k)) (fa := fun k => va (8 * c + k)) (fb := fun k => vb (8 * c + k)) hm hf
theorem cv_join_8 {post : St2 → Prop} {o a b n : Nat} {side : Int32} {mo ma mb vo va vb : Nat → Int32} (ho : o < n) (ha : a < n) (hb : b < n) (hn : n < 20) :
    ∀ (m c st : Nat) (dm : Int32) (a1 a2 a3 a4 a5 a13 : Nat → Int32), c + m = 8 → st + m ≤ 168 → cv_sto st a3 a4 → cv_row st a1 a2 a5 o mo vo → cv_row st a1 a2 a5 a ma va → cv_row st a1 a2 a5 b mb vb →
    (∀ i, i < c → cv_cv st a2 (a5 (8 * n + i)) (cv_mg3c (decide (side = 1)) mo ma mb vo va vb i)) →
    (∀ dm' st' b1 b2 b3 b4 b5 b13, st ≤ st' → st' ≤ st + m → cv_sto st' b3 b4 → cv_ext st a1 a2 b1 b2 → (∀ q, q < 8 * n → b5 q = a5 q) → (∀ i, i < 8 → cv_cv st' b2 (b5 (8 * n + i)) (cv_mg3c (decide (side = 1)) mo ma mb vo va vb i)) →
      post (dm', nI st', nI n, br, nI (cv_sum (fun c => cv_cnt (cv_cl3 mo ma mb vo va vb c) 8) 8), b1, b2, b3, b4, b5, a6, a7, a8, a9, a10, a11, a12, b13)) →
    wX_join_8 post (nI o) (nI a) (nI b) side (m + 1) (nI c) dm (nI st) (nI n) br (nI (cv_sum (fun c => cv_cnt (cv_cl3 mo ma mb vo va vb c) 8) c)) a1 a2 a3 a4 a5 a6 a7 a8 a9 a10 a11 a12 a13 := by
  intro m
  induction m with
  | zero =>
    intro c st dm a1 a2 a3 a4 a5 a13 hm hst hs ro ra rb hd H
    have e : c = 8 := by omega
    subst e
    exact pk_le 8 8 (fun _ => H dm st a1 a2 a3 a4 a5 a13 (by omega) (by omega) hs (cv_ext_rfl st a1 a2) (fun _ _ => rfl) hd) (fun z => absurd z (by omega))
  | succ m ih =>
    intro c st dm a1 a2 a3 a4 a5 a13 hm hst hs ro ra rb hd H
    have hc : c < 8 := by omega
    have step : ∀ (x : Int32) (st' : Nat) (dm' cl' : Int32) (b1 b2 b3 b4 b13 : Nat → Int32), st ≤ st' → st' ≤ st + 1 → cv_sto st' b3 b4 → cv_ext st a1 a2 b1 b2 → cv_cv st' b2 x (cv_mg3c (decide (side = 1)) mo ma mb vo va vb c) → cl' = nI (cv_sum (fun c => cv_cnt (cv_cl3 mo ma mb vo va vb c) 8) (c + 1)) →
        wX_join_103 post (wX_join_8 post (nI o) (nI a) (nI b) side (m + 1)) (nI o) (nI a) (nI b) side (nI c) x dm' (nI st') (nI n) br cl' b1 b2 b3 b4 a5 a6 a7 a8 a9 a10 a11 a12 b13 := by
      intro x st' dm' cl' b1 b2 b3 b4 b13 g1 g2 g3 g4 g5 g6
      subst g6
      unfold wX_join_103
      refine ⟨cv_ixi (by omega) (by omega), ?_⟩
      rw [cv_ixc (by omega)]
      have k5 : ∀ r, r < n → ∀ i, i < 8 → upd a5 (8 * n + c) x (8 * r + i) = a5 (8 * r + i) := fun r hr i hi => pk_un (by omega)
      refine nm_e (nm_r (nI_1 c) (ih (c + 1) st' dm' b1 b2 b3 b4 _ b13 (by omega) (by omega) g3 (cv_row_up g1 g4 (k5 o ho) ro) (cv_row_up g1 g4 (k5 a ha) ra) (cv_row_up g1 g4 (k5 b hb) rb) (fun i hi => ?_) (fun dm'' st'' c1 c2 c3 c4 c5 c13 l1 l2 l3 l4 l5 l6 => H dm'' st'' c1 c2 c3 c4 c5 c13 (by omega) (by omega) l3 (cv_ext_tr g1 g4 l4) (fun q hq => ?_) l6)))
      · by_cases g : i = c
        · subst g
          rw [pk_us]
          exact g5
        · rw [pk_un (by omega)]
          exact cv_cv_up g1 g4 (hd i (by omega))
      · rw [l5 q hq, pk_un (by omega)]
    refine pk_le 8 c (fun z => absurd z (by omega)) (fun _ => ⟨cv_ixi (by omega) (by omega), ?_⟩)
    rw [cv_ixc (by omega), cv_ixc (by omega), cv_ixc (by omega)]
    have xo := ro c hc
    have xa := ra c hc
    have xb := rb c hc
    have zero : (∀ k, k < 8 → cv_cl3 mo ma mb vo va vb c k = false) → nI (cv_sum (fun c => cv_cnt (cv_cl3 mo ma mb vo va vb c) 8) c) = nI (cv_sum (fun c => cv_cnt (cv_cl3 mo ma mb vo va vb c) 8) (c + 1)) := by
      intro hz
      show _ = nI (cv_sum (fun c => cv_cnt (cv_cl3 mo ma mb vo va vb c) 8) c + cv_cnt (cv_cl3 mo ma mb vo va vb c) 8)
      rw [cv_cnt_0 8 hz, Nat.add_zero]
    have hst' : st ≤ 168 := by omega
    refine nm_e ⟨cv_ixi (by omega) (by omega), nm_e ⟨cv_ixi (by omega) (by omega), nm_e (br_c (fun e => ?_) (fun e1 => br_c (fun e => ?_) (fun e2 => br_c (fun e => ?_) (fun e3 => ?_))))⟩⟩
    · rw [e] at xa
      obtain ⟨u1, u2⟩ := cv_ch_u hst' xa xo
      have u3 : ∀ k, k < 8 → va (8 * c + k) = vo (8 * c + k) := u2
      obtain ⟨j, hj, ej, gj⟩ := xb
      exact step _ st dm _ a1 a2 a3 a4 a13 (by omega) (by omega) hs (cv_ext_rfl st a1 a2) ⟨j, hj, ej, fun k hk => (gj.2 k hk).trans (cv_mgc1 u1 (u3 k hk)).2.symm⟩ (zero (fun k hk => (cv_mgc1 (w := true) u1 (u3 k hk)).1))
    · rw [e] at xb
      obtain ⟨u1, u2⟩ := cv_ch_u hst' xb xo
      have u3 : ∀ k, k < 8 → vb (8 * c + k) = vo (8 * c + k) := u2
      obtain ⟨j, hj, ej, gj⟩ := xa
      exact step _ st dm _ a1 a2 a3 a4 a13 (by omega) (by omega) hs (cv_ext_rfl st a1 a2) ⟨j, hj, ej, fun k hk => (gj.2 k hk).trans (cv_mgc2 u1 (u3 k hk)).2.symm⟩ (zero (fun k hk => (cv_mgc2 (w := true) u1 (u3 k hk)).1))
    · rw [e] at xb
      obtain ⟨u1, u2⟩ := cv_ch_u hst' xb xa
      have u3 : ∀ k, k < 8 → vb (8 * c + k) = va (8 * c + k) := u2
      obtain ⟨j, hj, ej, gj⟩ := xa
      exact step _ st dm _ a1 a2 a3 a4 a13 (by omega) (by omega) hs (cv_ext_rfl st a1 a2) ⟨j, hj, ej, fun k hk => (gj.2 k hk).trans (cv_mgc3 u1 (u3 k hk)).2.symm⟩ (zero (fun k hk => (cv_mgc3 (w := true) u1 (u3 k hk)).1))
    · exact cv_joinChunks (by omega) hs xo xa xb (fun i dm' st' b1 b2 b3 b4 b13 g1 g2 g3 g4 g5 g6 => step _ st' dm' _ b1 b2 b3 b4 b13 g1 g2 g4 g5 ⟨i, g3, rfl, g6⟩ (nI_add _ _))
theorem cv_join {post : St2 → Prop} {o a b n st : Nat} {side : Int32} {mo ma mb vo va vb : Nat → Int32} (ho : o < n) (ha : a < n) (hb : b < n) (hn : n < 20) (hst : st + 8 ≤ 168) (hs : cv_sto st a3 a4) (ro : cv_row st a1 a2 a5 o mo vo) (ra : cv_row st a1 a2 a5 a ma va) (rb : cv_row st a1 a2 a5 b mb vb)
    (H : ∀ dm' st' b1 b2 b3 b4 b5 b13, st ≤ st' → st' ≤ st + 8 → cv_sto st' b3 b4 → cv_ext st a1 a2 b1 b2 → (∀ q, q < 8 * n → b5 q = a5 q) → (∀ i, i < 8 → cv_cv st' b2 (b5 (8 * n + i)) (cv_mg3c (decide (side = 1)) mo ma mb vo va vb i)) →
      post (dm', nI st', nI n, br, nI (cv_sum (fun c => cv_cnt (cv_cl3 mo ma mb vo va vb c) 8) 8), b1, b2, b3, b4, b5, a6, a7, a8, a9, a10, a11, a12, b13)) :
    wpX_join post (dm, nI st, nI n, br, cl, a1, a2, a3, a4, a5, a6, a7, a8, a9, a10, a11, a12, a13) (nI o) (nI a) (nI b) side := by
  unfold wpX_join
  exact ⟨9, cv_join_8 ho ha hb hn 8 0 st dm a1 a2 a3 a4 a5 a13 (by omega) hst hs ro ra rb (fun i hi => absurd hi (by omega)) H⟩
end
end
section
section
variable {dm s ct br cl : Int32} {a1 a2 a3 a4 a5 a6 a7 a8 a9 a10 a11 a12 a13 : Nat → Int32}
theorem cv_init_139 {post : St2 → Prop} {mc ms kc ks : Nat} {x : Int32} (H : ∀ b5 b12, (∀ c, c < 8 → b5 c = x) → (∀ c, c < 8 → b12 c = x) → post (dm, s, 1, br, cl, a1, a2, a3, a4, b5, upd a6 0 (-1), upd a7 0 (-1), upd a8 0 1, a9, a10, a11, b12, a13)) :
    ∃ n, wX_init_139 post mc ms x kc ks dm s ct br cl n 0 a1 a2 a3 a4 a5 a6 a7 a8 a9 a10 a11 a12 a13 := by
  refine pk_loop (σ := (Nat → Int32) × (Nat → Int32)) (fun n k t => wX_init_139 post mc ms x kc ks dm s ct br cl n (nI k) a1 a2 a3 a4 t.1 a6 a7 a8 a9 a10 a11 t.2 a13) (fun k t => (∀ c, c < k → t.1 c = x) ∧ ∀ c, c < k → t.2 c = x) 8 0 (a5, a12) (by omega) ⟨fun c hc => absurd hc (by omega), fun c hc => absurd hc (by omega)⟩ (fun n t h => pk_le 8 8 (fun _ => nm_e (nm_e (nm_e (H t.1 t.2 h.1 h.2)))) (fun z => absurd z (by omega))) (fun n k t hk h hw => pk_le 8 k (fun z => absurd z (by omega)) (fun _ => ⟨pk_in k 160 (by omega), ?_⟩))
  rw [nI_clamp (show k < 2 ^ 31 by omega)]
  exact nm_e ⟨pk_in k 8 hk, nm_e (nm_r (nI_1 k) (hw (upd t.1 k x, upd t.2 k x) ⟨cv_fill0 (f := fun _ => x) h.1 rfl, cv_fill0 (f := fun _ => x) h.2 rfl⟩))⟩
theorem cv_init {post : St2 → Prop} {mc ms : Nat} (hmc : 13 ≤ mc) (hms : 2024 ≤ ms)
    (H : ∀ b1 b2 b3 b4 b5 b6 b7 b12, cv_sto 1 b3 b4 → cv_is b1 b2 0 0 (fun _ => 0) → (∀ c, c < 8 → b5 c = nI 0) → (∀ c, c < 8 → b12 c = nI 0) →
      post (0, nI 1, nI 1, nI 0, 0, b1, b2, b3, b4, b5, b6, b7, upd (fun _ => 0) 0 1, fun _ => 0, fun _ => 0, fun _ => 0, b12, fun _ => 0)) :
    wpX_init post mc ms (0, 0, 0, 0, 0) := by
  unfold wpX_init
  refine ⟨by omega, by omega, by omega, by omega, by omega, by omega, by omega, by omega, by omega, by omega, by omega, by omega, by omega, by omega, by omega, by omega, by omega, by omega, by omega, by omega, by omega, by omega, by omega, by omega, by omega, by omega, ?_⟩
  refine pk_loop (fun n k t => wX_init_113 post mc ms 13 2024 0 0 0 0 0 n (nI k) (fun _ => 0) (fun _ => 0) (fun _ => 0) t (fun _ => 0) (fun _ => 0) (fun _ => 0) (fun _ => 0) (fun _ => 0) (fun _ => 0) (fun _ => 0) (fun _ => 0) (fun _ => 0)) (fun k t => ∀ j, j < k → t j = -1) 32 0 (fun _ => 0) (by omega) (fun j hj => absurd hj (by omega)) (fun n t h => pk_le 32 32 (fun _ => ?_) (fun z => absurd z (by omega))) (fun n k t hk h hw => pk_le 32 k (fun z => absurd z (by omega)) (fun _ => ⟨pk_in k 32 hk, ?_⟩))
  · refine cv_intern (st := 0) (by omega) ⟨fun i hi => absurd hi (by omega), fun b hb => Or.inl (h b hb)⟩ (fun i st' b1 b2 b3 b4 g1 g2 g3 g4 g5 g6 => ?_)
    have e1 : st' = 1 := by omega
    have e2 : i = 0 := by omega
    subst e1 e2
    exact cv_init_139 (fun b5 b12 h5 h12 => H b1 b2 b3 b4 b5 _ _ b12 g4 g6 h5 h12)
  · rw [nI_clamp (show k < 2 ^ 31 by omega)]
    exact nm_e (nm_r (nI_1 k) (hw _ (cv_fill0 (f := fun _ => -1) h rfl)))
/-- the working map's masks after a put -/
def cv_pm (wm : Nat → Int32) (k : Nat) : Nat → Int32 := upd wm (k / 8) (wm (k / 8) ||| ((1 : Int32) <<< (nI (k % 8) &&& 31)))
def cv_uN (f : Nat → Nat) (k x : Nat) : Nat → Nat := fun j => if j = k then x else f j
/-- the state between two calls: n commits, row r holds the map MK r, VL r; hd the heads; wm, wv the working map -/
def cv_ok (MK VL : Nat → Nat → Int32) (KN : Nat → Int32) (st n b : Nat) (hd : Nat → Nat) (wm wv a1 a2 a3 a4 a5 a8 a9 a10 a11 a12 : Nat → Int32) : Prop :=
  b < 4 ∧ cv_sto st a3 a4 ∧ (∀ r, r < n → cv_row st a1 a2 a5 r (MK r) (VL r)) ∧ (∀ r, r < n → a8 r = KN r) ∧ (∀ i, i < 4 → hd i < n ∧ a9 i = nI (hd i)) ∧ (∀ c, c < 8 → a10 c = wm c) ∧ (∀ q, q < 64 → a11 q = wv q) ∧ cv_wc st a1 a2 a10 a11 a12
theorem cv_okInit {post : St2 → Prop} {mc ms : Nat} {MK VL : Nat → Nat → Int32} {KN : Nat → Int32} (hmc : 13 ≤ mc) (hms : 2024 ≤ ms) (hm : MK 0 = fun _ => 0) (hv : VL 0 = fun _ => 0) (hk : KN 0 = 1)
    (H : ∀ dm cl a1 a2 a3 a4 a5 a6 a7 a8 a9 a10 a11 a12 a13, cv_ok MK VL KN 1 1 0 (fun _ => 0) (MK 0) (VL 0) a1 a2 a3 a4 a5 a8 a9 a10 a11 a12 → post (dm, nI 1, nI 1, nI 0, cl, a1, a2, a3, a4, a5, a6, a7, a8, a9, a10, a11, a12, a13)) :
    wpX_init post mc ms (0, 0, 0, 0, 0) := by
  refine cv_init hmc hms (fun b1 b2 b3 b4 b5 b6 b7 b12 g1 g2 g3 g4 => H _ _ _ _ _ _ _ _ _ _ _ _ _ _ _ ⟨by omega, g1, fun r hr => ?_, fun r hr => ?_, fun i hi => ⟨Nat.zero_lt_one, rfl⟩, fun c hc => by rw [hm], fun q hq => by rw [hv], fun c hc => Or.inr ⟨0, by omega, g4 c hc, g2⟩⟩)
  · have e : r = 0 := by omega
    subst e
    rw [hm, hv]
    intro c hc
    rw [show 8 * 0 + c = c by omega]
    exact ⟨0, by omega, g3 c hc, g2⟩
  · have e : r = 0 := by omega
    subst e
    rw [hk]
    exact pk_us
theorem cv_okPut {post : Int32 → St2 → Prop} {MK VL : Nat → Nat → Int32} {KN wm wv : Nat → Int32} {st n b k : Nat} {hd : Nat → Nat} {v : Int32} (hk : k < 64) (h : cv_ok MK VL KN st n b hd wm wv a1 a2 a3 a4 a5 a8 a9 a10 a11 a12)
    (H : ∀ r b10 b11 b12, cv_ok MK VL KN st n b hd (cv_pm wm k) (upd wv k v) a1 a2 a3 a4 a5 a8 a9 b10 b11 b12 → post r (dm, s, ct, br, cl, a1, a2, a3, a4, a5, a6, a7, a8, a9, b10, b11, b12, a13)) :
    wpX_put post (dm, s, ct, br, cl, a1, a2, a3, a4, a5, a6, a7, a8, a9, a10, a11, a12, a13) (nI k) v := by
  obtain ⟨h1, h2, h3, h4, h5, h6, h7, h8⟩ := h
  refine cv_put hk (fun r => H r _ _ _ ⟨h1, h2, h3, h4, h5, fun c hc => ?_, fun q hq => ?_, fun c hc => ?_⟩)
  · unfold cv_pm
    by_cases e : c = k / 8
    · rw [e, pk_us, pk_us, h6 (k / 8) (by omega)]
    · rw [pk_un e, pk_un e, h6 c hc]
  · by_cases e : q = k
    · rw [e, pk_us, pk_us]
    · rw [pk_un e, pk_un e, h7 q hq]
  · by_cases e : c = k / 8
    · rw [e, pk_us]
      exact Or.inl rfl
    · rw [pk_un e, pk_un e]
      rcases h8 c hc with z | ⟨i, hi, ei, g1, g2⟩
      · exact Or.inl z
      · refine Or.inr ⟨i, hi, ei, g1, fun j hj => ?_⟩
        rw [g2 j hj]
        exact (pk_un (by omega)).symm
theorem cv_okCommit {post : Int32 → St2 → Prop} {MK VL : Nat → Nat → Int32} {KN wm wv : Nat → Int32} {st n b : Nat} {hd : Nat → Nat} (hst : st + 8 ≤ 168) (hn : n < 20) (h : cv_ok MK VL KN st n b hd wm wv a1 a2 a3 a4 a5 a8 a9 a10 a11 a12)
    (hm : MK n = wm) (hv : VL n = wv) (hk : KN n = KN (hd b) ||| ((1 : Int32) <<< (nI n &&& 31)))
    (H : ∀ dm' st' b1 b2 b3 b4 b5 b6 b7 b8 b9 b12 b13, st' ≤ st + 8 → cv_ok MK VL KN st' (n + 1) b (cv_uN hd b n) wm wv b1 b2 b3 b4 b5 b8 b9 a10 a11 b12 → cv_cl n b5 b12 →
      post (nI n) (dm', nI st', nI (n + 1), nI b, cl, b1, b2, b3, b4, b5, b6, b7, b8, b9, a10, a11, b12, b13)) :
    wpX_commit post (dm, nI st, nI n, nI b, cl, a1, a2, a3, a4, a5, a6, a7, a8, a9, a10, a11, a12, a13) := by
  obtain ⟨h1, h2, h3, h4, h5, h6, h7, h8⟩ := h
  have hhb := h5 b h1
  refine cv_commit hst hn h1 h2 h8 hhb.2 (by omega) (fun dm' st' b1 b2 b3 b4 b5 b6 b7 b12 b13 g1 g2 g3 g4 g5 g6 g7 => H dm' st' b1 b2 b3 b4 b5 b6 b7 _ _ b12 b13 g2 ⟨h1, g3, fun r hr => ?_, fun r hr => ?_, fun i hi => ?_, h6, h7, fun c hc => Or.inr (g6 c hc)⟩ g7)
  · by_cases e : r = n
    · subst e
      intro c hc
      rw [← g7 c hc, hm, hv, ← h6 c hc]
      obtain ⟨i, hi, ei, k1, k2⟩ := g6 c hc
      exact ⟨i, hi, ei, k1, fun k hk => (k2 k hk).trans (h7 (8 * c + k) (by omega))⟩
    · exact cv_row_up g1 g4 (fun c hc => g5 (8 * r + c) (by omega)) (h3 r (by omega))
  · by_cases e : r = n
    · subst e
      rw [pk_us, hk, h4 (hd b) hhb.1]
    · rw [pk_un e]
      exact h4 r (by omega)
  · unfold cv_uN
    by_cases e : i = b
    · rw [e, if_pos rfl, pk_us]
      exact ⟨by omega, rfl⟩
    · rw [if_neg e, pk_un e]
      exact ⟨by have := (h5 i hi).1; omega, (h5 i hi).2⟩
theorem cv_okBranch {post : Int32 → St2 → Prop} {MK VL : Nat → Nat → Int32} {KN wm wv : Nat → Int32} {st n b p : Nat} {hd : Nat → Nat} (hp : p < 4) (hne : p ≠ b) (h : cv_ok MK VL KN st n b hd wm wv a1 a2 a3 a4 a5 a8 a9 a10 a11 a12)
    (H : ∀ b9, cv_ok MK VL KN st n b (cv_uN hd p (hd b)) wm wv a1 a2 a3 a4 a5 a8 b9 a10 a11 a12 → post (nI (hd p)) (dm, s, ct, nI b, cl, a1, a2, a3, a4, a5, a6, a7, a8, b9, a10, a11, a12, a13)) : wpX_branch post (dm, s, ct, nI b, cl, a1, a2, a3, a4, a5, a6, a7, a8, a9, a10, a11, a12, a13) (nI p) := by
  obtain ⟨h1, h2, h3, h4, h5, h6, h7, h8⟩ := h
  refine cv_branch h1 hp hne ?_
  rw [(h5 p hp).2]
  refine H _ ⟨h1, h2, h3, h4, fun i hi => ?_, h6, h7, h8⟩
  unfold cv_uN
  by_cases e : i = p
  · rw [e, if_pos rfl, pk_us]
    exact h5 b h1
  · rw [if_neg e, pk_un e]
    exact h5 i hi
theorem cv_wcOf {st r : Nat} {mk vl b10 b11 b12 : Nat → Int32} (hrow : cv_row st a1 a2 a5 r mk vl) (g1 : ∀ c, c < 8 → b10 c = mk c) (g2 : ∀ q, q < 64 → b11 q = vl q) (g3 : cv_cl r a5 b12) : cv_wc st a1 a2 b10 b11 b12 := fun c hc => by
  obtain ⟨i, hi, ei, k1, k2⟩ := hrow c hc
  exact Or.inr ⟨i, hi, (g3 c hc).trans ei, k1.trans (g1 c hc).symm, fun k hk => (k2 k hk).trans (g2 (8 * c + k) (by omega)).symm⟩
theorem cv_okChange {post : Int32 → St2 → Prop} {MK VL : Nat → Nat → Int32} {KN wm wv : Nat → Int32} {st n b p : Nat} {hd : Nat → Nat} (hst : st ≤ 168) (hn : n ≤ 20) (hp : p < 4) (h : cv_ok MK VL KN st n b hd wm wv a1 a2 a3 a4 a5 a8 a9 a10 a11 a12) (hc : cv_cl (hd b) a5 a12)
    (H : ∀ b10 b11 b12, cv_ok MK VL KN st n p hd (MK (hd p)) (VL (hd p)) a1 a2 a3 a4 a5 a8 a9 b10 b11 b12 → post (nI (hd p)) (dm, s, nI n, nI p, cl, a1, a2, a3, a4, a5, a6, a7, a8, a9, b10, b11, b12, a13)) : wpX_change post (dm, s, nI n, nI b, cl, a1, a2, a3, a4, a5, a6, a7, a8, a9, a10, a11, a12, a13) (nI p) := by
  obtain ⟨h1, h2, h3, h4, h5, h6, h7, h8⟩ := h
  have hhb := h5 b h1
  have hhp := h5 p hp
  exact cv_change hst hn h1 hp hhb.2 (by omega) hc hhp.2 hhp.1 (h3 _ hhp.1) h8 (fun b10 b11 b12 g1 g2 g3 => H b10 b11 b12 ⟨hp, h2, h3, h4, h5, g1, g2, cv_wcOf (h3 _ hhp.1) g1 g2 g3⟩)
end
end
section
section
variable {dm s ct br cl : Int32} {a1 a2 a3 a4 a5 a6 a7 a8 a9 a10 a11 a12 a13 : Nat → Int32}
/-- the clashes of the whole: o the base, a ours, b theirs -/
def cv_tot (mo ma mb vo va vb : Nat → Int32) : Nat := cv_sum (fun c => cv_cnt (cv_cl3 mo ma mb vo va vb c) 8) 8
theorem cv_merge_129 {post : Int32 → St2 → Prop} {st : Nat} {side : Int32} {m1 m2 m3 v1 v2 v3 : Nat → Int32} (hst : st + 8 ≤ 168) (hs : cv_sto st a3 a4) (r1 : cv_row st a1 a2 a5 1 m1 v1) (r2 : cv_row st a1 a2 a5 2 m2 v2) (r3 : cv_row st a1 a2 a5 3 m3 v3) (hw : cv_wc st a1 a2 a10 a11 a12)
    (H : ∀ dm' st' b1 b2 b3 b4 b5 b6 b7 b8 b9 b10 b11 b12 b13, (∀ q, q < 64 → b11 q = cv_mg3c (decide (side = 1)) m1 m3 m2 v1 v3 v2 (q / 8) (q % 8)) → post (nI (cv_tot m1 m3 m2 v1 v3 v2)) (dm', nI st', nI 5, nI 1, nI (cv_tot m1 m3 m2 v1 v3 v2), b1, b2, b3, b4, b5, b6, b7, b8, b9, b10, b11, b12, b13)) :
    wX_merge_129 post side (nI 3) (nI 2) (nI 1) dm (nI st) (nI 4) (nI 1) cl a1 a2 a3 a4 a5 a6 a7 a8 a9 a10 a11 a12 a13 := by
  unfold wX_merge_129
  refine cv_join (o := 1) (a := 3) (b := 2) (by omega) (by omega) (by omega) (by omega) hst hs r1 r3 r2 (fun dm' st' b1 b2 b3 b4 b5 b13 g1 g2 g3 g4 g5 g6 => ?_)
  refine cv_enter2 (p := 3) (q := 2) (by omega) (by omega) (by omega) (by omega) (fun b6 b7 b8 => ?_)
  have hr : cv_row st' b1 b2 b5 4 (fun c => b1 (b5 (8 * 4 + c)).toNatClampNeg) (fun q => cv_mg3c (decide (side = 1)) m1 m3 m2 v1 v3 v2 (q / 8) (q % 8)) := by
    intro c hc
    obtain ⟨i, hi, ei, g⟩ := g6 c hc
    refine ⟨i, hi, ei, ?_, fun k hk => ?_⟩
    · show b1 i = b1 (b5 (8 * 4 + c)).toNatClampNeg
      rw [ei, nI_clamp (by omega)]
    · show b2 (8 * i + k) = cv_mg3c (decide (side = 1)) m1 m3 m2 v1 v3 v2 ((8 * c + k) / 8) ((8 * c + k) % 8)
      rw [g k hk, show (8 * c + k) / 8 = c by omega, show (8 * c + k) % 8 = k by omega]
  have hw' : cv_wc st' b1 b2 a10 a11 a12 := fun c hc => by
    rcases hw c hc with z | z
    · exact Or.inl z
    · exact Or.inr (cv_ch_up g1 g4 z)
  exact cv_checkout (n := 5) (r := 4) (by omega) (by omega) (by omega) hr hw' (fun x b10 b11 b12 k1 k2 k3 => H dm' st' b1 b2 b3 b4 b5 b6 b7 b8 _ b10 b11 b12 b13 k2)
theorem cv_okMerge {post : Int32 → St2 → Prop} {MK VL : Nat → Nat → Int32} {KN wm wv : Nat → Int32} {st : Nat} {hd : Nat → Nat} {side : Int32} (hst : st + 8 ≤ 168) (h : cv_ok MK VL KN st 4 1 hd wm wv a1 a2 a3 a4 a5 a8 a9 a10 a11 a12) (hd0 : hd 0 = 2) (hd1 : hd 1 = 3) (hc : cv_cl 3 a5 a12) (k2 : KN 2 = 7) (k3 : KN 3 = 11)
    (Hbad : (side < 0 ∨ ¬ side ≤ 2) → post (-2) (dm, nI st, nI 4, nI 1, cl, a1, a2, a3, a4, a5, a6, a7, a8, a9, a10, a11, a12, a13))
    (H5 : side = 2 → 0 < cv_tot (MK 1) (MK 3) (MK 2) (VL 1) (VL 3) (VL 2) → post (-5) (dm, nI st, nI 4, nI 1, cl, a1, a2, a3, a4, a5, a6, a7, a8, a9, a10, a11, a12, a13))
    (Hok : ¬ side < 0 → side ≤ 2 → (side = 2 → cv_tot (MK 1) (MK 3) (MK 2) (VL 1) (VL 3) (VL 2) = 0) → ∀ dm' st' b1 b2 b3 b4 b5 b6 b7 b8 b9 b10 b11 b12 b13, (∀ q, q < 64 → b11 q = cv_mg3c (decide (side = 1)) (MK 1) (MK 3) (MK 2) (VL 1) (VL 3) (VL 2) (q / 8) (q % 8)) → post (nI (cv_tot (MK 1) (MK 3) (MK 2) (VL 1) (VL 3) (VL 2))) (dm', nI st', nI 5, nI 1, nI (cv_tot (MK 1) (MK 3) (MK 2) (VL 1) (VL 3) (VL 2)), b1, b2, b3, b4, b5, b6, b7, b8, b9, b10, b11, b12, b13)) :
    wpX_merge post (dm, nI st, nI 4, nI 1, cl, a1, a2, a3, a4, a5, a6, a7, a8, a9, a10, a11, a12, a13) (nI 0) side := by
  obtain ⟨h1, h2, h3, h4, h5, h6, h7, h8⟩ := h
  have e0 : a9 0 = nI 2 := by rw [(h5 0 (by omega)).2, hd0]
  have e1 : a9 1 = nI 3 := by rw [(h5 1 (by omega)).2, hd1]
  have z2 : a8 2 = 7 := by rw [h4 2 (by omega), k2]
  have z3 : a8 3 = 11 := by rw [h4 3 (by omega), k3]
  have m129 : (¬ side < 0 → side ≤ 2 → (side = 2 → cv_tot (MK 1) (MK 3) (MK 2) (VL 1) (VL 3) (VL 2) = 0) → wX_merge_129 post side (nI 3) (nI 2) (nI 1) dm (nI st) (nI 4) (nI 1) cl a1 a2 a3 a4 a5 a6 a7 a8 a9 a10 a11 a12 a13) := fun p1 p2 p3 =>
    cv_merge_129 hst h2 (h3 1 (by omega)) (h3 2 (by omega)) (h3 3 (by omega)) h8 (Hok p1 p2 p3)
  unfold wpX_merge
  refine cv_isBranch (by omega) (br_f (by decide) (br_c (fun p => Hbad (Or.inl p)) (fun p1 => br_c (fun p2 => ?_) (fun p => Hbad (Or.inr p)))))
  refine cv_isClean h1 (by omega) e1 hc (br_f (by decide) ⟨pk_in 1 4 (by omega), ?_⟩)
  rw [nI_clamp (show 1 < 2 ^ 31 by omega), nI_clamp (show 0 < 2 ^ 31 by omega), e0, e1]
  refine nm_e ⟨pk_in 0 4 (by omega), nm_e ?_⟩
  refine cv_baseOf z3 z2 (br_f (by decide) (br_f (by decide) (br_f (by decide) (br_c (fun p => ?_) (fun p => m129 p1 p2 (fun z => absurd z p))))))
  refine cv_countClashes (st := st) (o := 1) (a := 3) (b := 2) (by omega) (by omega) (by omega) (by omega) (h3 1 (by omega)) (h3 3 (by omega)) (h3 2 (by omega)) ?_
  have tl : cv_tot (MK 1) (MK 3) (MK 2) (VL 1) (VL 3) (VL 2) < 2 ^ 31 := by
    have t : ∀ n, cv_sum (fun c => cv_cnt (cv_cl3 (MK 1) (MK 3) (MK 2) (VL 1) (VL 3) (VL 2) c) 8) n ≤ 8 * n := by
      intro n
      induction n with
      | zero => exact Nat.le_refl 0
      | succ n ih =>
        show cv_sum (fun c => cv_cnt (cv_cl3 (MK 1) (MK 3) (MK 2) (VL 1) (VL 3) (VL 2) c) 8) n + cv_cnt (cv_cl3 (MK 1) (MK 3) (MK 2) (VL 1) (VL 3) (VL 2) n) 8 ≤ 8 * (n + 1)
        have t2 := cv_cnt_le (cv_cl3 (MK 1) (MK 3) (MK 2) (VL 1) (VL 3) (VL 2) n) 8
        omega
    have t3 := t 8
    show cv_sum (fun c => cv_cnt (cv_cl3 (MK 1) (MK 3) (MK 2) (VL 1) (VL 3) (VL 2) c) 8) 8 < 2 ^ 31
    omega
  exact pk_le (cv_tot (MK 1) (MK 3) (MK 2) (VL 1) (VL 3) (VL 2)) 0 (fun z => m129 p1 p2 (fun _ => by omega)) (fun z => H5 p z) rfl rfl tl (by omega)
end
/-! the plain law: what the merge of the law's three maps answers -/
section
variable {K J : Nat} {x y z : Int32}
def cv_MK (K J : Nat) : Nat → Nat → Int32
  | 0 => fun _ => 0
  | 1 => cv_pm (fun _ => 0) K
  | 2 => cv_pm (cv_pm (fun _ => 0) K) K
  | _ => cv_pm (cv_pm (fun _ => 0) K) J
def cv_VL (K J : Nat) (x y z : Int32) : Nat → Nat → Int32
  | 0 => fun _ => 0
  | 1 => upd (fun _ => 0) K x
  | 2 => upd (upd (fun _ => 0) K x) K y
  | _ => upd (upd (fun _ => 0) K x) J z
def cv_KN : Nat → Int32
  | 0 => 1
  | 1 => 3
  | 2 => 7
  | _ => 11
theorem cv_pmb {wm : Nat → Int32} {q c k : Nat} (hk : k < 8) : cv_bt (cv_pm wm q c) k = (cv_bt (wm c) k || decide (8 * c + k = q)) := by
  unfold cv_pm
  by_cases e : c = q / 8
  · rw [e, pk_us, cv_b_or, cv_b_one (q % 8) (by omega) k hk, decide_eq_decide.mpr (show k = q % 8 ↔ 8 * (q / 8) + k = q from ⟨fun _ => by omega, fun _ => by omega⟩)]
  · rw [pk_un e, decide_eq_false (show ¬ 8 * c + k = q by omega), Bool.or_false]
/-- theirs against the base -/
theorem cv_tb {c k : Nat} (hk : k < 8) : cv_ne (cv_MK K J 2 c) (cv_MK K J 1 c) (fun k => cv_VL K J x y z 2 (8 * c + k)) (fun k => cv_VL K J x y z 1 (8 * c + k)) k = (decide (8 * c + k = K) && decide (¬ y = x)) := by
  unfold cv_ne
  show ((cv_bt (cv_pm (cv_pm (fun _ => 0) K) K c) k ^^ cv_bt (cv_pm (fun _ => 0) K c) k) || decide (¬ upd (upd (fun _ => 0) K x) K y (8 * c + k) = upd (fun _ => 0) K x (8 * c + k))) = _
  rw [cv_pmb hk, cv_pmb hk, Bool.or_assoc, Bool.or_self, Bool.xor_self, Bool.false_or]
  by_cases e : 8 * c + k = K
  · rw [e, pk_us, pk_us, decide_eq_true rfl, Bool.true_and]
  · rw [pk_un e, decide_eq_false e, Bool.false_and]
    exact decide_eq_false (fun h => h rfl)
/-- ours against the base -/
theorem cv_ob {c k : Nat} (hk : k < 8) : cv_ne (cv_MK K J 3 c) (cv_MK K J 1 c) (fun k => cv_VL K J x y z 3 (8 * c + k)) (fun k => cv_VL K J x y z 1 (8 * c + k)) k = (decide (8 * c + k = J) && (decide (¬ J = K) || decide (¬ z = x))) := by
  unfold cv_ne
  show ((cv_bt (cv_pm (cv_pm (fun _ => 0) K) J c) k ^^ cv_bt (cv_pm (fun _ => 0) K c) k) || decide (¬ upd (upd (fun _ => 0) K x) J z (8 * c + k) = upd (fun _ => 0) K x (8 * c + k))) = _
  rw [cv_pmb hk, cv_pmb hk, cv_b_0, Bool.false_or]
  by_cases e : 8 * c + k = J
  · rw [e, pk_us, decide_eq_true rfl, Bool.true_and, Bool.or_true]
    by_cases g : J = K
    · rw [g, pk_us, decide_eq_true rfl, decide_eq_false (p := ¬ K = K) (fun h => h rfl)]
      rfl
    · rw [decide_eq_false g, decide_eq_true g]
      rfl
  · rw [pk_un e, decide_eq_false e, Bool.or_false, Bool.xor_self, Bool.false_or, Bool.false_and]
    exact decide_eq_false (fun h => h rfl)
/-- ours against theirs, at the key, where both wrote it -/
theorem cv_ab {c k : Nat} (hk : k < 8) (e : 8 * c + k = K) : cv_ne (cv_MK K K 3 c) (cv_MK K K 2 c) (fun k => cv_VL K K x y z 3 (8 * c + k)) (fun k => cv_VL K K x y z 2 (8 * c + k)) k = decide (¬ z = y) := by
  unfold cv_ne
  show ((cv_bt (cv_pm (cv_pm (fun _ => 0) K) K c) k ^^ cv_bt (cv_pm (cv_pm (fun _ => 0) K) K c) k) || decide (¬ upd (upd (fun _ => 0) K x) K z (8 * c + k) = upd (upd (fun _ => 0) K x) K y (8 * c + k))) = _
  rw [Bool.xor_self, Bool.false_or, e, pk_us, pk_us]
theorem cv_clF {c k : Nat} (hk : k < 8) (h : ¬ (8 * c + k = K ∧ J = K ∧ ¬ z = x ∧ ¬ y = x ∧ ¬ z = y)) : cv_cl3 (cv_MK K J 1) (cv_MK K J 3) (cv_MK K J 2) (cv_VL K J x y z 1) (cv_VL K J x y z 3) (cv_VL K J x y z 2) c k = false := by
  unfold cv_cl3 cv_clash
  rw [cv_tb hk, cv_ob hk]
  by_cases e : 8 * c + k = K
  · by_cases g : J = K
    · subst g
      rw [cv_ab hk e]
      by_cases g1 : z = x
      · rw [decide_eq_false (p := ¬ z = x) (fun h => h g1), decide_eq_false (p := ¬ J = J) (fun h => h rfl), Bool.or_false, Bool.and_false, Bool.and_false, Bool.false_and]
      · by_cases g2 : y = x
        · rw [decide_eq_false (p := ¬ y = x) (fun h => h g2), Bool.and_false, Bool.and_false]
        · by_cases g3 : z = y
          · rw [decide_eq_false (p := ¬ z = y) (fun h => h g3), Bool.false_and, Bool.false_and]
          · exact absurd ⟨e, rfl, g1, g2, g3⟩ h
    · rw [decide_eq_false (show ¬ 8 * c + k = J from fun z => g (z ▸ e)), Bool.false_and, Bool.and_false, Bool.false_and]
  · rw [decide_eq_false e, Bool.false_and, Bool.and_false]
theorem cv_clT {c k : Nat} (hk : k < 8) (e : 8 * c + k = K) (g : J = K) (g1 : ¬ z = x) (g2 : ¬ y = x) (g3 : ¬ z = y) : cv_cl3 (cv_MK K J 1) (cv_MK K J 3) (cv_MK K J 2) (cv_VL K J x y z 1) (cv_VL K J x y z 3) (cv_VL K J x y z 2) c k = true := by
  subst g
  unfold cv_cl3 cv_clash
  rw [cv_tb hk, cv_ob hk, cv_ab hk e, decide_eq_true e, decide_eq_true g1, decide_eq_true g2, decide_eq_true g3, Bool.or_true]
  rfl
theorem cv_tot0 (h : ¬ (J = K ∧ ¬ z = x ∧ ¬ y = x ∧ ¬ z = y)) : cv_tot (cv_MK K J 1) (cv_MK K J 3) (cv_MK K J 2) (cv_VL K J x y z 1) (cv_VL K J x y z 3) (cv_VL K J x y z 2) = 0 :=
  cv_sum_0 8 (fun c _ => cv_cnt_0 8 (fun k hk => cv_clF hk (fun g => h g.2)))
theorem cv_tot1 (hK : K < 64) (g : J = K) (g1 : ¬ z = x) (g2 : ¬ y = x) (g3 : ¬ z = y) : cv_tot (cv_MK K J 1) (cv_MK K J 3) (cv_MK K J 2) (cv_VL K J x y z 1) (cv_VL K J x y z 3) (cv_VL K J x y z 2) = 1 := by
  refine cv_sum_1 (d := K / 8) ?_ 8 (by omega) (fun c _ hc => cv_cnt_0 8 (fun k hk => cv_clF hk (fun g => ?_)))
  · exact cv_cnt_1 (d := K % 8) (cv_clT (by omega) (by omega) g g1 g2 g3) 8 (by omega) (fun k hk hne => cv_clF hk (fun t => hne (by have := t.1; omega)))
  · have := g.1
    omega
/-- the merged value at the key -/
theorem cv_mgK {w : Bool} (hK : K < 64) : cv_mg3c w (cv_MK K J 1) (cv_MK K J 3) (cv_MK K J 2) (cv_VL K J x y z 1) (cv_VL K J x y z 3) (cv_VL K J x y z 2) (K / 8) (K % 8) =
    if J = K then (if z = x then y else (if w = true ∧ ¬ y = x ∧ ¬ z = y then y else z)) else y := by
  have e : 8 * (K / 8) + K % 8 = K := by omega
  have hk : K % 8 < 8 := by omega
  unfold cv_mg3c cv_mg cv_ft
  rw [cv_tb hk, cv_ob hk]
  show (if ((decide (8 * (K / 8) + K % 8 = K) && decide (¬ y = x) && !(decide (8 * (K / 8) + K % 8 = J) && (decide (¬ J = K) || decide (¬ z = x)))) || (w && cv_cl3 (cv_MK K J 1) (cv_MK K J 3) (cv_MK K J 2) (cv_VL K J x y z 1) (cv_VL K J x y z 3) (cv_VL K J x y z 2) (K / 8) (K % 8))) = true then upd (upd (fun _ => 0) K x) K y (8 * (K / 8) + K % 8) else upd (upd (fun _ => 0) K x) J z (8 * (K / 8) + K % 8)) = _
  rw [e, pk_us, decide_eq_true rfl, Bool.true_and]
  by_cases g : J = K
  · subst g
    rw [if_pos rfl, pk_us, decide_eq_true rfl, decide_eq_false (p := ¬ J = J) (fun h => h rfl), Bool.true_and, Bool.false_or]
    by_cases g1 : z = x
    · rw [if_pos g1, cv_clF hk (fun t => t.2.2.1 g1), decide_eq_false (p := ¬ z = x) (fun h => h g1), Bool.and_false, Bool.or_false, Bool.not_false, Bool.and_true]
      by_cases g2 : y = x
      · rw [if_neg (by rw [decide_eq_false (fun h => h g2)]; decide), g1, g2]
      · rw [if_pos (decide_eq_true g2)]
    · rw [if_neg g1, decide_eq_true g1, Bool.not_true, Bool.and_false, Bool.false_or]
      by_cases g2 : ¬ y = x ∧ ¬ z = y
      · rw [cv_clT hk e rfl g1 g2.1 g2.2, Bool.and_true]
        by_cases g3 : w = true
        · rw [if_pos g3, if_pos ⟨g3, g2⟩]
        · rw [if_neg g3, if_neg (fun t => g3 t.1)]
      · rw [cv_clF hk (fun t => g2 ⟨t.2.2.2.1, t.2.2.2.2⟩), Bool.and_false, if_neg (by decide), if_neg (fun t => g2 t.2)]
  · rw [if_neg g, cv_clF hk (fun t => g t.2.1), decide_eq_false (p := K = J) (fun h => g h.symm), Bool.false_and, Bool.not_false, Bool.and_true, Bool.and_false, Bool.or_false, pk_un (fun h => g h.symm), pk_us]
    by_cases g2 : y = x
    · rw [if_neg (by rw [decide_eq_false (fun h => h g2)]; decide), g2]
    · rw [if_pos (decide_eq_true g2)]
end
end
section
section
variable {dm s ct br cl : Int32} {a1 a2 a3 a4 a5 a6 a7 a8 a9 a10 a11 a12 a13 : Nat → Int32}
theorem cv_value {post : Int32 → Prop} {k : Nat} (hk : k < 64) (H : post (a11 k)) : wpX_value post (dm, s, ct, br, cl, a1, a2, a3, a4, a5, a6, a7, a8, a9, a10, a11, a12, a13) (nI k) := by
  unfold wpX_value
  refine cv_isKey hk (br_f (by decide) ⟨pk_in k 64 hk, ?_⟩)
  rw [nI_clamp (by omega)]
  exact H
theorem cv_256 {post : Int32 → St0 → Prop} {mc ms kc ks K : Nat} {due mg held : Int32} (hK : K < 64) (h1 : 0 ≤ due → a11 K = mg) (h2 : ¬ 0 ≤ due → a11 K = held) (H : post 1 ()) : wL_lawOf_256 post mc ms (nI K) due mg held kc ks dm s ct br cl a1 a2 a3 a4 a5 a6 a7 a8 a9 a10 a11 a12 a13 := by
  unfold wL_lawOf_256
  exact cv_value hK (br_c (fun e => br_t (h1 e) H) (fun e => br_t (h2 e) H))
theorem cv_241 {post : Int32 → St0 → Prop} {mc ms kc ks K J : Nat} {x z due mg : Int32} (hK : K < 64) (hJ : J < 64) (h1 : 0 ≤ due → a11 K = mg) (h2 : ¬ 0 ≤ due → a11 K = if J = K then z else x) (H : post 1 ()) : wL_lawOf_241 post mc ms x z (nI K) (nI J) due mg kc ks dm s ct br cl a1 a2 a3 a4 a5 a6 a7 a8 a9 a10 a11 a12 a13 := by
  unfold wL_lawOf_241
  exact pk_eq J K (fun e => cv_256 hK h1 (fun g => by rw [h2 g, if_pos e]) H) (fun e => cv_256 hK h1 (fun g => by rw [h2 g, if_neg e]) H)
theorem cv_sel {P : Int32 → Prop} {X8 X7 x y z side x10 : Int32} (h : P (if X8 = X7 then (if z = x then y else (if x10 = 0 then z else (if side = 1 then y else z))) else y)) :
    (X8 = X7 → ((z = x → P y) ∧ (¬ z = x → ((x10 = 0 → P z) ∧ (¬ x10 = 0 → ((side = 1 → P y) ∧ (¬ side = 1 → P z))))))) ∧ (¬ X8 = X7 → P y) := by
  refine br_c (fun e => ?_) (fun e => ?_)
  · rw [if_pos e] at h
    refine br_c (fun e1 => ?_) (fun e1 => ?_)
    · rw [if_pos e1] at h
      exact h
    · rw [if_neg e1] at h
      refine br_c (fun e2 => ?_) (fun e2 => ?_)
      · rw [if_pos e2] at h
        exact h
      · rw [if_neg e2] at h
        refine br_c (fun e3 => ?_) (fun e3 => ?_)
        · rw [if_pos e3] at h
          exact h
        · rw [if_neg e3] at h
          exact h
  · rw [if_neg e] at h
    exact h
/-- the two writes clash -/
def cv_C (K J : Nat) (x y z : Int32) : Prop := J = K ∧ ¬ z = x ∧ ¬ y = x ∧ ¬ z = y
theorem cv_186 {post : Int32 → St0 → Prop} {mc ms kc ks K J st : Nat} {hd : Nat → Nat} {wm : Nat → Int32} {x y z side x10 due : Int32} (hK : K < 64) (hJ : J < 64) (hst : st + 8 ≤ 168)
    (h : cv_ok (cv_MK K J) (cv_VL K J x y z) cv_KN st 4 1 hd wm (cv_VL K J x y z 3) a1 a2 a3 a4 a5 a8 a9 a10 a11 a12) (hd0 : hd 0 = 2) (hd1 : hd 1 = 3) (hc : cv_cl 3 a5 a12)
    (hdue : (due = -2 ∧ (side < 0 ∨ ¬ side ≤ 2)) ∨ (due = 0 ∧ ¬ side < 0 ∧ side ≤ 2 ∧ ¬ cv_C K J x y z) ∨ (due = -5 ∧ ¬ side < 0 ∧ side ≤ 2 ∧ side = 2 ∧ cv_C K J x y z) ∨ (due = 1 ∧ ¬ side < 0 ∧ side ≤ 2 ∧ ¬ side = 2 ∧ cv_C K J x y z))
    (h10 : (x10 = 0 ∧ ¬ cv_C K J x y z) ∨ (x10 = 1 ∧ cv_C K J x y z)) (H : post 1 ()) :
    wL_lawOf_186 post mc ms x y z side (nI K) (nI J) x10 due kc ks dm (nI st) (nI 4) (nI 1) cl a1 a2 a3 a4 a5 a6 a7 a8 a9 a10 a11 a12 a13 := by
  have held : a11 K = if J = K then z else x := by
    rw [h.2.2.2.2.2.2.1 K hK]
    show upd (upd (fun _ => 0) K x) J z K = _
    by_cases e : J = K
    · rw [if_pos e, e, pk_us]
    · rw [if_neg e, pk_un (fun t => e t.symm), pk_us]
  unfold wL_lawOf_186
  refine cv_okMerge hst h hd0 hd1 hc rfl rfl (fun hb => ?_) (fun p ht => ?_) (fun p1 p2 p3 dm' st' b1 b2 b3 b4 b5 b6 b7 b8 b9 b10 b11 b12 b13 hv => ?_)
  · have e : due = -2 := by
      rcases hdue with t | t | t | t
      · exact t.1
      · rcases hb with u | u
        · exact absurd u t.2.1
        · exact absurd t.2.2.1 u
      · rcases hb with u | u
        · exact absurd u t.2.1
        · exact absurd t.2.2.1 u
      · rcases hb with u | u
        · exact absurd u t.2.1
        · exact absurd t.2.2.1 u
    subst e
    refine br_t rfl (cv_sel (P := fun g => wL_lawOf_241 post mc ms x z (nI K) (nI J) (-2) g kc ks dm (nI st) (nI 4) (nI 1) cl a1 a2 a3 a4 a5 a6 a7 a8 a9 a10 a11 a12 a13) ?_)
    exact cv_241 hK hJ (fun t => absurd t (by decide)) (fun _ => held) H
  · have hC : cv_C K J x y z := by
      refine Classical.byContradiction (fun n => ?_)
      rw [cv_tot0 n] at ht
      exact absurd ht (by omega)
    have e : due = -5 := by
      rcases hdue with t | t | t | t
      · rcases t.2 with u | u
        · rw [p] at u
          exact absurd u (by decide)
        · rw [p] at u
          exact absurd (by decide) u
      · exact absurd hC t.2.2.2
      · exact t.1
      · exact absurd p t.2.2.2.1
    subst e
    refine br_t rfl (cv_sel (P := fun g => wL_lawOf_241 post mc ms x z (nI K) (nI J) (-5) g kc ks dm (nI st) (nI 4) (nI 1) cl a1 a2 a3 a4 a5 a6 a7 a8 a9 a10 a11 a12 a13) ?_)
    exact cv_241 hK hJ (fun t => absurd t (by decide)) (fun _ => held) H
  · have hg : b11 K = (if nI J = nI K then (if z = x then y else (if x10 = 0 then z else (if side = 1 then y else z))) else y) := by
      rw [hv K hK, cv_mgK hK]
      by_cases e : J = K
      · rw [if_pos e, if_pos (show nI J = nI K by rw [e])]
        by_cases e1 : z = x
        · rw [if_pos e1, if_pos e1]
        · rw [if_neg e1, if_neg e1]
          rcases h10 with t | t
          · rw [if_pos t.1, if_neg (fun u => t.2 ⟨e, e1, u.2⟩)]
          · have n10 : ¬ x10 = 0 := by
              rw [t.1]
              decide
            rw [if_neg n10]
            by_cases e2 : side = 1
            · rw [if_pos e2, if_pos ⟨decide_eq_true e2, t.2.2.2⟩]
            · rw [if_neg e2, if_neg (fun u => e2 (of_decide_eq_true u.1))]
      · rw [if_neg e, if_neg (fun t => e ((nI_eq (by omega) (by omega)).mp t))]
    have e : nI (cv_tot (cv_MK K J 1) (cv_MK K J 3) (cv_MK K J 2) (cv_VL K J x y z 1) (cv_VL K J x y z 3) (cv_VL K J x y z 2)) = due ∧ 0 ≤ due := by
      rcases hdue with t | t | t | t
      · rcases t.2 with u | u
        · exact absurd u p1
        · exact absurd p2 u
      · rw [cv_tot0 t.2.2.2, t.1]
        exact ⟨rfl, by decide⟩
      · have q := p3 t.2.2.2.1
        have q2 := t.2.2.2.2
        rw [cv_tot1 hK q2.1 q2.2.1 q2.2.2.1 q2.2.2.2] at q
        exact absurd q (by decide)
      · have q2 := t.2.2.2.2
        rw [cv_tot1 hK q2.1 q2.2.1 q2.2.2.1 q2.2.2.2, t.1]
        exact ⟨rfl, by decide⟩
    refine br_t e.1 (cv_sel (P := fun g => wL_lawOf_241 post mc ms x z (nI K) (nI J) due g kc ks dm' (nI st') (nI 5) (nI 1) (nI (cv_tot (cv_MK K J 1) (cv_MK K J 3) (cv_MK K J 2) (cv_VL K J x y z 1) (cv_VL K J x y z 3) (cv_VL K J x y z 2))) b1 b2 b3 b4 b5 b6 b7 b8 b9 b10 b11 b12 b13) ?_)
    exact cv_241 hK hJ (fun _ => hg) (fun t => absurd e.2 t) H
theorem cv_153 {post : Int32 → St0 → Prop} {mc ms kc ks K J st : Nat} {hd : Nat → Nat} {wm : Nat → Int32} {x y z side x9 x10 : Int32} (hK : K < 64) (hJ : J < 64) (hst : st + 8 ≤ 168)
    (h : cv_ok (cv_MK K J) (cv_VL K J x y z) cv_KN st 4 1 hd wm (cv_VL K J x y z 3) a1 a2 a3 a4 a5 a8 a9 a10 a11 a12) (hd0 : hd 0 = 2) (hd1 : hd 1 = 3) (hc : cv_cl 3 a5 a12)
    (h9 : (x9 = 0 ∧ (side < 0 ∨ ¬ side ≤ 2)) ∨ (x9 = 1 ∧ ¬ side < 0 ∧ side ≤ 2))
    (h10 : (x10 = 0 ∧ ¬ cv_C K J x y z) ∨ (x10 = 1 ∧ cv_C K J x y z)) (H : post 1 ()) :
    wL_lawOf_153 post mc ms x y z side (nI K) (nI J) x9 x10 kc ks dm (nI st) (nI 4) (nI 1) cl a1 a2 a3 a4 a5 a6 a7 a8 a9 a10 a11 a12 a13 := by
  unfold wL_lawOf_153
  have n1 : ¬ (1 : Int32) = 0 := by decide
  rcases h9 with t | t
  · exact br_t t.1 (cv_186 hK hJ hst h hd0 hd1 hc (Or.inl ⟨rfl, t.2⟩) h10 H)
  · refine br_f (by rw [t.1]; exact n1) ?_
    rcases h10 with u | u
    · exact br_t u.1 (cv_186 hK hJ hst h hd0 hd1 hc (Or.inr (Or.inl ⟨rfl, t.2.1, t.2.2, u.2⟩)) (Or.inl u) H)
    · refine br_f (by rw [u.1]; exact n1) (br_c (fun e => ?_) (fun e => ?_))
      · exact cv_186 hK hJ hst h hd0 hd1 hc (Or.inr (Or.inr (Or.inl ⟨rfl, t.2.1, t.2.2, e, u.2⟩))) (Or.inr u) H
      · exact cv_186 hK hJ hst h hd0 hd1 hc (Or.inr (Or.inr (Or.inr ⟨rfl, t.2.1, t.2.2, e, u.2⟩))) (Or.inr u) H
theorem cv_122 {post : Int32 → St0 → Prop} {mc ms kc ks K J st : Nat} {hd : Nat → Nat} {wm : Nat → Int32} {x y z side x9 : Int32} (hK : K < 64) (hJ : J < 64) (hst : st + 8 ≤ 168)
    (h : cv_ok (cv_MK K J) (cv_VL K J x y z) cv_KN st 4 1 hd wm (cv_VL K J x y z 3) a1 a2 a3 a4 a5 a8 a9 a10 a11 a12) (hd0 : hd 0 = 2) (hd1 : hd 1 = 3) (hc : cv_cl 3 a5 a12)
    (h9 : (x9 = 0 ∧ (side < 0 ∨ ¬ side ≤ 2)) ∨ (x9 = 1 ∧ ¬ side < 0 ∧ side ≤ 2)) (H : post 1 ()) :
    wL_lawOf_122 post mc ms x y z side (nI K) (nI J) x9 kc ks dm (nI st) (nI 4) (nI 1) cl a1 a2 a3 a4 a5 a6 a7 a8 a9 a10 a11 a12 a13 := by
  have no : ¬ cv_C K J x y z → wL_lawOf_152 post mc ms x y z side (nI K) (nI J) x9 kc ks dm (nI st) (nI 4) (nI 1) cl a1 a2 a3 a4 a5 a6 a7 a8 a9 a10 a11 a12 a13 := by
    intro n
    unfold wL_lawOf_152
    exact cv_153 hK hJ hst h hd0 hd1 hc h9 (Or.inl ⟨rfl, n⟩) H
  unfold wL_lawOf_122
  exact pk_eq J K (fun e => br_c (fun e1 => no (fun t => t.2.1 e1)) (fun e1 => br_c (fun e2 => no (fun t => t.2.2.1 e2)) (fun e2 => br_c (fun e3 => no (fun t => t.2.2.2 e3)) (fun e3 => cv_153 hK hJ hst h hd0 hd1 hc h9 (Or.inr ⟨rfl, e, e1, e2, e3⟩) H)))) (fun e => no (fun t => e t.1))
theorem cv_32 {post : Int32 → St0 → Prop} {mc ms kc ks K J : Nat} {x y z side : Int32} (hK : K < 64) (hJ : J < 64)
    (h : cv_ok (cv_MK K J) (cv_VL K J x y z) cv_KN 1 1 0 (fun _ => 0) (cv_MK K J 0) (cv_VL K J x y z 0) a1 a2 a3 a4 a5 a8 a9 a10 a11 a12) (H : post 1 ()) :
    wL_lawOf_32 post mc ms x y z side (nI K) (nI J) kc ks dm (nI 1) (nI 1) (nI 0) cl a1 a2 a3 a4 a5 a6 a7 a8 a9 a10 a11 a12 a13 := by
  unfold wL_lawOf_32
  refine cv_okPut hK h (fun r1 b10 b11 b12 h => ?_)
  refine cv_okCommit (st := 1) (n := 1) (b := 0) (by omega) (by omega) h rfl rfl (by decide) (fun dm2 st2 b1 b2 b3 b4 b5 b6 b7 b8 b9 b12 b13 hs2 h hc => ?_)
  refine cv_okBranch (n := 2) (b := 0) (p := 1) (by omega) (by omega) h (fun b9 h => br_t rfl ?_)
  refine cv_okPut hK h (fun r1 b10 b11 b12 h => ?_)
  refine cv_okCommit (st := st2) (n := 2) (b := 0) (by omega) (by omega) h rfl rfl (by decide) (fun dm3 st3 b1 b2 b3 b4 b5 b6 b7 b8 b9 b12 b13 hs3 h hc => br_t rfl ?_)
  refine cv_okChange (st := st3) (n := 3) (b := 0) (p := 1) (by omega) (by omega) (by omega) h hc (fun b10 b11 b12 h => br_t rfl ?_)
  refine cv_okPut hJ h (fun r1 b10 b11 b12 h => ?_)
  refine cv_okCommit (st := st3) (n := 3) (b := 1) (by omega) (by omega) h rfl rfl (by decide) (fun dm4 st4 b1 b2 b3 b4 b5 b6 b7 b8 b9 b12 b13 hs4 h hc => ?_)
  refine br_c (fun e => ?_) (fun e1 => br_c (fun e => ?_) (fun e2 => ?_))
  · unfold wL_lawOf_121
    exact cv_122 hK hJ (by omega) h rfl rfl hc (Or.inl ⟨rfl, Or.inl e⟩) H
  · unfold wL_lawOf_121
    exact cv_122 hK hJ (by omega) h rfl rfl hc (Or.inl ⟨rfl, Or.inr (fun t => absurd e (Int32.not_lt.mpr t))⟩) H
  · exact cv_122 hK hJ (by omega) h rfl rfl hc (Or.inr ⟨rfl, e1, Int32.not_lt.mp e2⟩) H
theorem cv_lawOf {post : Int32 → St0 → Prop} {p0 p1 p2 p3 p4 p5 : Int32} (H : post 1 ()) : wpL_lawOf post 14 2042 () p0 p1 p2 p3 p4 p5 := by
  unfold wpL_lawOf
  obtain ⟨K, hK, eK⟩ := pk_andE p0 (m := 63) 6 (by decide)
  obtain ⟨J, hJ, eJ⟩ := pk_andE (p1 >>> ((1 : Int32) &&& 31)) (m := 63) 6 (by decide)
  refine ⟨by omega, by omega, 13, 2024, by omega, by omega, ?_⟩
  rw [eK, eJ]
  by_cases e : p1 &&& 1 = 0
  · refine cv_okInit (MK := cv_MK K K) (VL := cv_VL K K p2 p3 p4) (KN := cv_KN) (by omega) (by omega) rfl rfl rfl (fun dm cl a1 a2 a3 a4 a5 a6 a7 a8 a9 a10 a11 a12 a13 h => nm_e (br_t e ?_))
    exact cv_32 hK hK h H
  · refine cv_okInit (MK := cv_MK K J) (VL := cv_VL K J p2 p3 p4) (KN := cv_KN) (by omega) (by omega) rfl rfl rfl (fun dm cl a1 a2 a3 a4 a5 a6 a7 a8 a9 a10 a11 a12 a13 h => nm_e (br_f e ?_))
    exact cv_32 hK hJ h H
theorem cv_cell {post : Int32 → Prop} {L i : Nat} {xs : Nat → Int32} (hL : L ≤ 6) (hi : i < 6) (H : ∀ v, post v) : wpL_cellAt post L xs () (nI i) := by
  unfold wpL_cellAt
  exact pk_le L i (fun _ => H 0) (fun z => ⟨pk_in i L z, H _⟩)
end
theorem i_vc (xs : Nat → Int32) (L : Nat) (hL : L ≤ 6) : wpL_law (fun r => r = 1) L xs := by
  unfold wpL_law
  exact cv_cell (i := 0) hL (by omega) (fun r1 => cv_cell (i := 1) hL (by omega) (fun r2 => cv_cell (i := 2) hL (by omega) (fun r3 => cv_cell (i := 3) hL (by omega) (fun r4 => cv_cell (i := 4) hL (by omega) (fun r5 => cv_cell (i := 5) hL (by omega) (fun r6 => ⟨14, 2042, by omega, by omega, cv_lawOf rfl⟩))))))
end
