section
/-! indices, fills -/
theorem av_i8 (i j : Nat) : (8 : Int32) * nI i + nI j = nI (8 * i + j) := by
  show nI 8 * nI i + nI j = _
  rw [pk_mul, nI_add]
theorem av_i3 (i j : Nat) : (3 : Int32) * nI i + nI j = nI (3 * i + j) := by
  show nI 3 * nI i + nI j = _
  rw [pk_mul, nI_add]
theorem av_i4 (i j : Nat) : (4 : Int32) * nI i + nI j = nI (4 * i + j) := by
  show nI 4 * nI i + nI j = _
  rw [pk_mul, nI_add]
theorem av_i16 (i j : Nat) : (16 : Int32) * nI i + nI j = nI (16 * i + j) := by
  show nI 16 * nI i + nI j = _
  rw [pk_mul, nI_add]
theorem av_fill {f s : Nat → Int32} {i k : Nat} {x : Int32} (hk : k = i) (h : ∀ j, j < i → s j = f j) (hx : x = f i) : ∀ j, j < i + 1 → upd s k x j = f j := by
  intro j hj
  rw [hk]
  by_cases e : j = i
  · rw [e, pk_us, hx]
  · rw [pk_un e]
    exact h j (by omega)
theorem av_fillL {f s : Nat → Int64} {i k : Nat} {x : Int64} (hk : k = i) (h : ∀ j, j < i → s j = f j) (hx : x = f i) : ∀ j, j < i + 1 → vp_updL s k x j = f j := by
  intro j hj
  rw [hk]
  by_cases e : j = i
  · rw [e, pk_uLs, hx]
  · rw [pk_uLn e]
    exact h j (by omega)
theorem av_fillO {f s : Nat → Int32} {p i k : Nat} {x : Int32} (hk : k = p + i) (h : ∀ j, j < i → s (p + j) = f j) (hx : x = f i) : ∀ j, j < i + 1 → upd s k x (p + j) = f j := by
  intro j hj
  rw [hk]
  by_cases e : j = i
  · rw [e, pk_us, hx]
  · rw [pk_un (by omega)]
    exact h j (by omega)
theorem av_fillOL {f s : Nat → Int64} {p i k : Nat} {x : Int64} (hk : k = p + i) (h : ∀ j, j < i → s (p + j) = f j) (hx : x = f i) : ∀ j, j < i + 1 → vp_updL s k x (p + j) = f j := by
  intro j hj
  rw [hk]
  by_cases e : j = i
  · rw [e, pk_uLs, hx]
  · rw [pk_uLn (by omega)]
    exact h j (by omega)
/-- a place that holds f already is written over with f's own value: for all below N -/
theorem av_keep {s : Nat → Int32} {N k : Nat} {x y : Int32} (h : ∀ j, j < N → s j = y) (hx : x = y) : ∀ j, j < N → upd s k x j = y := by
  intro j hj
  by_cases e : j = k
  · rw [e, pk_us, hx]
  · rw [pk_un e]
    exact h j hj
theorem av_clN {x : Int32} (n : Nat) (h : n < 2 ^ 31) (hx : x = nI n) : x.toNatClampNeg = n := by
  rw [hx]
  exact nI_clamp h
theorem av_bool {x : Int32} (h : x = 0 ∨ x = 1) : narrow .boolean (.int x) = .int x := by
  rcases h with e | e <;> subst e <;> rfl
/-! the digits of a state; what is added to the copy -/
def av_d (k t : Nat) : Nat := if t = 3 then 0 else k / 2 ^ (3 * t) % 8
theorem av_d_lt (k t : Nat) : av_d k t < 8 := by
  unfold av_d
  split
  · omega
  · exact Nat.mod_lt _ (by omega)
def av_by (b : Nat) : Int32 := nI b - 7
theorem av_sm : ∀ t, t < 3 → (((3 : Int32) * nI t &&& 31).toBitVec.smod 32).toNat = 3 * t := by decide +kernel
theorem av_dig {k t : Nat} (hk : k < 512) (ht : t < 3) : (nI k >>> (((3 : Int32) * nI t) &&& 31)) &&& 7 = nI (av_d k t) := by
  rw [pk_shrN (by omega) _ (3 * t) (av_sm t ht)]
  have hq : k / 2 ^ (3 * t) < 2 ^ 32 := Nat.lt_of_le_of_lt (Nat.div_le_self _ _) (by omega)
  rw [pk_andN hq 3 (by decide)]
  unfold av_d
  rw [if_neg (by omega)]
/-! the members of a set of states: 512 bits in eight longs -/
theorem av_bit {w : Int64} {s : UInt64} {j : Nat} (hj : j < 64) (hs : s.toNat = j) : ((w.toUInt64 >>> s).toInt64 &&& 1) = 0 ↔ w.toBitVec.getLsbD j = false := by
  have e : (w.toUInt64 >>> s).toInt64.toBitVec = w.toBitVec >>> j := by
    apply BitVec.eq_of_toNat_eq
    show (w.toUInt64 >>> s).toNat = _
    rw [UInt64.toNat_shiftRight, hs, Nat.mod_eq_of_lt hj, BitVec.toNat_ushiftRight]
    rfl
  rw [← Int64.toBitVec_inj, Int64.toBitVec_and, e]
  show w.toBitVec >>> j &&& 1#64 = 0#64 ↔ _
  constructor
  · intro h
    have t := congrArg (fun x => x.getLsbD 0) h
    simpa using t
  · intro h
    apply BitVec.eq_of_getLsbD_eq
    intro i hi
    cases i with
    | zero => simp [h]
    | succ i => simp
def av_mem (a : Nat → Int64) (t : Nat) : Bool := (a (t / 64)).toBitVec.getLsbD (t % 64)
theorem av_sh6 {k : Nat} (hk : k < 512) : nI k >>> ((6 : Int32) &&& 31) = nI (k / 64) := pk_shrN (by omega) _ 6 (by decide)
theorem av_a63 {k : Nat} (hk : k < 512) : nI k &&& 63 = nI (k % 64) := pk_andN (by omega) 6 (by decide)
theorem av_cu : ∀ k, k < 64 → ((nI k).toInt64.toUInt64 &&& Int64.toUInt64 63).toNat = k := by decide +kernel
theorem av_tp : ∀ k, k < 64 → ((1 : Int64) <<< ((nI k).toInt64 &&& 63)).toBitVec = BitVec.twoPow 64 k := by decide +kernel
theorem av_test {w : Int64} {k : Nat} (hk : k < 512) : ((w.toUInt64 >>> ((nI k &&& 63).toInt64.toUInt64 &&& Int64.toUInt64 63)).toInt64 &&& 1) = 0 ↔ w.toBitVec.getLsbD (k % 64) = false := by
  rw [av_a63 hk]
  exact av_bit (Nat.mod_lt _ (by omega)) (av_cu _ (Nat.mod_lt _ (by omega)))
theorem av_madd {a : Nat → Int64} {k t : Nat} (hk : k < 512) : av_mem (vp_updL a (k / 64) (a (k / 64) ||| ((1 : Int64) <<< ((nI k &&& 63).toInt64 &&& 63)))) t = (av_mem a t || decide (t = k)) := by
  unfold av_mem
  by_cases e : t / 64 = k / 64
  · rw [e, pk_uLs, Int64.toBitVec_or, BitVec.getLsbD_or, av_a63 hk, av_tp _ (Nat.mod_lt _ (by omega)), BitVec.getLsbD_twoPow]
    by_cases h : t = k
    · subst h
      have h64 : t % 64 < 64 := Nat.mod_lt _ (by omega)
      simp [h64]
    · have h2 : ¬ k % 64 = t % 64 := by omega
      simp [h, h2]
  · rw [pk_uLn e]
    have h : ¬ t = k := fun z => e (by rw [z])
    simp [h]
/-! counting -/
def av_cnt (p : Nat → Bool) : Nat → Nat
  | 0 => 0
  | n + 1 => av_cnt p n + (if p n then 1 else 0)
theorem av_cnt_le (p : Nat → Bool) (n : Nat) : av_cnt p n ≤ n := by
  induction n with
  | zero => exact Nat.le_refl 0
  | succ n ih =>
    show av_cnt p n + (if p n then 1 else 0) ≤ n + 1
    split <;> omega
end
section
/-! small methods -/
theorem av_isVariable {post : Int32 → Prop} {c l lv wt : Int32} {a1 a2 a3 a4 a5 a6 a8 a9 a10 a11 a14 a15 a16 a17 : Nat → Int32} {a7 a12 a13 : Nat → Int64} {v : Nat} (hv : v < 3) (H : post 1) : wpX_isVariable post (c, l, lv, wt, a1, a2, a3, a4, a5, a6, a7, a8, a9, a10, a11, a12, a13, a14, a15, a16, a17) (nI v) :=
  pk_lt v 0 (fun z => absurd z (by omega)) (fun _ => pk_lt 2 v (fun z => absurd z (by omega)) (fun _ => H))
theorem av_isAsked {post : Int32 → Prop} {l lv wt : Int32} {a1 a2 a3 a4 a5 a6 a8 a9 a10 a11 a14 a15 a16 a17 : Nat → Int32} {a7 a12 a13 : Nat → Int64} {w : Nat} (hw : w < 4) (H : post 1) : wpX_isAsked post (2, l, lv, wt, a1, a2, a3, a4, a5, a6, a7, a8, a9, a10, a11, a12, a13, a14, a15, a16, a17) (nI w) 2 :=
  pk_lt w 0 (fun z => absurd z (by omega)) (fun _ => pk_lt 3 w (fun z => absurd z (by omega)) (fun _ => pk_lt 2 0 (fun z => absurd z (by omega)) (fun _ => pk_lt 2 2 (fun z => absurd z (by omega)) (fun _ => H))))
theorem av_valid {post : Int32 → Prop} {l lv wt : Int32} {a1 a2 a3 a4 a5 a6 a8 a9 a10 a11 a14 a15 a16 a17 : Nat → Int32} {a7 a12 a13 : Nat → Int64} (h0 : a1 0 = 2) (h1 : a1 1 = 1) (H : post 1) : wpX_valid post (2, l, lv, wt, a1, a2, a3, a4, a5, a6, a7, a8, a9, a10, a11, a12, a13, a14, a15, a16, a17) := by
  refine pk_loop (σ := Unit) (fun n i _ => wX_valid_2 post 2 l lv wt a1 a2 a3 a4 a5 a6 a7 a8 a9 a10 a11 a12 a13 a14 a15 a16 a17 n (nI i)) (fun _ _ => True) 2 0 () (by omega) trivial
    (fun n _ _ => pk_le 2 2 (fun _ => H) (fun z => absurd z (by omega))) (fun n i _ hi _ hw => pk_le 2 i (fun z => absurd z (by omega)) (fun _ => ?_))
  have e4 : ¬ a1 (nI i).toNatClampNeg = 4 ∧ ¬ a1 (nI i).toNatClampNeg = 5 := by
    rw [nI_clamp (by omega)]
    rcases (by omega : i = 0 ∨ i = 1) with e | e
    · rw [e, h0]; decide
    · rw [e, h1]; decide
  exact ⟨pk_in i 20 (by omega), br_f e4.1 ⟨pk_in i 20 (by omega), br_f e4.2 (nm_r (nI_1 i) (hw () trivial))⟩⟩
theorem av_change {post : St2 → Prop} {c l lv wt : Int32} {a1 a2 a3 a4 a5 a6 a8 a9 a10 a11 a14 a15 a16 a17 : Nat → Int32} {a7 a12 a13 : Nat → Int64} (H : ∀ a : Nat → Int32, (∀ j, j < 4 → a j = 0) → post (c, l, lv, wt, a1, a2, a3, a4, a, a6, a7, a8, a9, a10, a11, a12, a13, a14, a15, a16, a17)) : wpX_change post (c, l, lv, wt, a1, a2, a3, a4, a5, a6, a7, a8, a9, a10, a11, a12, a13, a14, a15, a16, a17) :=
  pk_loop (fun n i s => wX_change_2 post c l lv wt n (nI i) a1 a2 a3 a4 s a6 a7 a8 a9 a10 a11 a12 a13 a14 a15 a16 a17) (fun i s => ∀ j, j < i → s j = 0) 4 0 a5 (by omega) (fun j hj => absurd hj (by omega))
    (fun n s h => pk_le 4 4 (fun _ => H s h) (fun z => absurd z (by omega)))
    (fun n i s hi h hw => pk_le 4 i (fun z => absurd z (by omega)) (fun _ => ⟨pk_in i 4 hi, nm_e (nm_r (nI_1 i) (hw _ (av_fill (nI_clamp (by omega)) h rfl)))⟩))
theorem av_put {post : St2 → Prop} {c l lv wt : Int32} {a1 a2 a3 a4 a5 a6 a8 a9 a10 a11 a14 a15 a16 a17 : Nat → Int32} {a7 a12 a13 : Nat → Int64} {i : Nat} {x1 x2 x3 x4 : Int32} (hi : i < 20) (h1 : x1.toInt8.toInt32 = x1) (h2 : x2.toInt8.toInt32 = x2) (h3 : x3.toInt8.toInt32 = x3) (h4 : x4.toInt8.toInt32 = x4)
    (H : ∀ a : Nat → Int32, (∀ j, j < 4 → a j = 0) → post (c, l, lv, wt, upd a1 i x1, upd a2 i x2, upd a3 i x3, upd a4 i x4, a, a6, a7, a8, a9, a10, a11, a12, a13, a14, a15, a16, a17)) : wpX_put post (c, l, lv, wt, a1, a2, a3, a4, a5, a6, a7, a8, a9, a10, a11, a12, a13, a14, a15, a16, a17) (nI i) x1 x2 x3 x4 := by
  unfold wpX_put
  refine And.intro (pk_in i 20 hi) (nm_r (e' := upd a1 i x1) (by rw [nI_clamp (by omega), h1]) (And.intro (pk_in i 20 hi) (nm_r (e' := upd a2 i x2) (by rw [nI_clamp (by omega), h2]) (And.intro (pk_in i 20 hi) (nm_r (e' := upd a3 i x3) (by rw [nI_clamp (by omega), h3]) (And.intro (pk_in i 20 hi) (nm_r (e' := upd a4 i x4) (by rw [nI_clamp (by omega), h4]) ?_)))))))
  exact av_change H
/-! filled -/
theorem av_isF0 {post : Int32 → Prop} {c l lv wt : Int32} {a1 a2 a3 a4 a5 a6 a8 a9 a10 a11 a14 a15 a16 a17 : Nat → Int32} {a7 a12 a13 : Nat → Int64} {i : Nat} {x : Int32} (hi : i < 21) (h : ((a6 i) >>> (x &&& 31)) &&& 1 = 0) (H : post 0) : wpX_isFilled post (c, l, lv, wt, a1, a2, a3, a4, a5, a6, a7, a8, a9, a10, a11, a12, a13, a14, a15, a16, a17) x (nI i) :=
  And.intro (pk_in i 21 hi) (br_t (by rw [nI_clamp (by omega)]; exact h) H)
theorem av_isF1 {post : Int32 → Prop} {c l lv wt : Int32} {a1 a2 a3 a4 a5 a6 a8 a9 a10 a11 a14 a15 a16 a17 : Nat → Int32} {a7 a12 a13 : Nat → Int64} {i : Nat} {x : Int32} (hi : i < 21) (h : ¬ ((a6 i) >>> (x &&& 31)) &&& 1 = 0) (H : post 1) : wpX_isFilled post (c, l, lv, wt, a1, a2, a3, a4, a5, a6, a7, a8, a9, a10, a11, a12, a13, a14, a15, a16, a17) x (nI i) :=
  And.intro (pk_in i 21 hi) (br_f (by rw [nI_clamp (by omega)]; exact h) H)
/-! begin -/
theorem av_beg74 {post : St2 → Prop} {c l lv wt : Int32} {a1 a2 a3 a4 a5 a6 a8 a9 a10 a11 a14 a15 a16 a17 : Nat → Int32} {a7 a12 a13 : Nat → Int64} (H : ∀ b : Nat → Int32, (∀ j, j < 16 → b j = 0) → post (c, l, lv, wt, a1, a2, a3, a4, a5, a6, a7, a8, a9, a10, a11, a12, a13, a14, a15, a16, b)) : ∃ n, wX_begin_74 post c l lv wt n 0 a1 a2 a3 a4 a5 a6 a7 a8 a9 a10 a11 a12 a13 a14 a15 a16 a17 :=
  pk_loop (fun n i s => wX_begin_74 post c l lv wt n (nI i) a1 a2 a3 a4 a5 a6 a7 a8 a9 a10 a11 a12 a13 a14 a15 a16 s) (fun i s => ∀ j, j < i → s j = 0) 16 0 a17 (by omega) (fun j hj => absurd hj (by omega))
    (fun n s h => pk_le 16 16 (fun _ => H s h) (fun z => absurd z (by omega)))
    (fun n i s hi h hw => pk_le 16 i (fun z => absurd z (by omega)) (fun _ => ⟨pk_in i 16 hi, nm_e (nm_r (nI_1 i) (hw _ (av_fill (nI_clamp (by omega)) h rfl)))⟩))
theorem av_beg40 {post : St2 → Prop} {c l lv wt : Int32} {a1 a2 a3 a4 a5 a6 a8 a9 a10 a11 a14 a15 a16 a17 : Nat → Int32} {a7 a12 a13 : Nat → Int64} (H : ∀ b14 b15 b16 b17 : Nat → Int32, (∀ j, j < 3 → b14 j = 1) → (∀ j, j < 3 → b15 j = 0) → (∀ j, j < 3 → b16 j = 0) → (∀ j, j < 16 → b17 j = 0) → post (c, l, lv, wt, a1, a2, a3, a4, a5, a6, a7, a8, a9, a10, a11, a12, a13, b14, b15, b16, b17)) : ∃ n, wX_begin_40 post c l lv wt n 0 a1 a2 a3 a4 a5 a6 a7 a8 a9 a10 a11 a12 a13 a14 a15 a16 a17 :=
  pk_loop (σ := (Nat → Int32) × (Nat → Int32) × (Nat → Int32)) (fun n i s => wX_begin_40 post c l lv wt n (nI i) a1 a2 a3 a4 a5 a6 a7 a8 a9 a10 a11 a12 a13 s.1 s.2.1 s.2.2 a17) (fun i s => (∀ j, j < i → s.1 j = 1) ∧ (∀ j, j < i → s.2.1 j = 0) ∧ (∀ j, j < i → s.2.2 j = 0)) 3 0 (a14, a15, a16) (by omega) ⟨fun j hj => absurd hj (by omega), fun j hj => absurd hj (by omega), fun j hj => absurd hj (by omega)⟩
    (fun n s h => pk_le 3 3 (fun _ => av_beg74 (fun b hb => H _ _ _ b h.1 h.2.1 h.2.2 hb)) (fun z => absurd z (by omega)))
    (fun n i s hi h hw => pk_le 3 i (fun z => absurd z (by omega)) (fun _ => ⟨pk_in i 3 hi, nm_e ⟨pk_in i 3 hi, nm_e ⟨pk_in i 3 hi, nm_e (nm_r (nI_1 i) (hw (upd s.1 (nI i).toNatClampNeg 1, upd s.2.1 (nI i).toNatClampNeg 0, upd s.2.2 (nI i).toNatClampNeg 0) ⟨av_fill (nI_clamp (by omega)) h.1 rfl, av_fill (nI_clamp (by omega)) h.2.1 rfl, av_fill (nI_clamp (by omega)) h.2.2 rfl⟩))⟩⟩⟩))
theorem av_beg11 {post : St2 → Prop} {c l lv wt : Int32} {a1 a2 a3 a4 a5 a6 a8 a9 a10 a11 a14 a15 a16 a17 : Nat → Int32} {a7 a12 a13 : Nat → Int64} (H : ∀ (b12 : Nat → Int64) (b14 b15 b16 b17 : Nat → Int32), (∀ j, j < 8 → b12 j = if j = 0 then 1 else 0) → post (c, l, lv, wt, a1, a2, a3, a4, a5, a6, a7, a8, a9, a10, a11, b12, a13, b14, b15, b16, b17)) : ∃ n, wX_begin_11 post c l lv wt n 0 a1 a2 a3 a4 a5 a6 a7 a8 a9 a10 a11 a12 a13 a14 a15 a16 a17 :=
  pk_loop (fun n i s => wX_begin_11 post c l lv wt n (nI i) a1 a2 a3 a4 a5 a6 a7 a8 a9 a10 a11 s a13 a14 a15 a16 a17) (fun i s => ∀ j, j < i → s j = if j = 0 then 1 else 0) 8 0 a12 (by omega) (fun j hj => absurd hj (by omega))
    (fun n s h => pk_le 8 8 (fun _ => av_beg40 (fun b14 b15 b16 b17 _ _ _ _ => H s b14 b15 b16 b17 h)) (fun z => absurd z (by omega)))
    (fun n i s hi h hw => pk_le 8 i (fun z => absurd z (by omega)) (fun _ => pk_eq i 0
      (fun z => ⟨pk_in i 8 hi, nm_e (nm_r (nI_1 i) (hw _ (av_fillL (f := fun j => if j = 0 then 1 else 0) (nI_clamp (by omega)) h (if_pos z).symm)))⟩)
      (fun z => ⟨pk_in i 8 hi, nm_e (nm_r (nI_1 i) (hw _ (av_fillL (f := fun j => if j = 0 then 1 else 0) (nI_clamp (by omega)) h (if_neg z).symm)))⟩)))
theorem av_begin0 {post : St2 → Prop} {c l lv wt : Int32} {a1 a2 a3 a4 a5 a6 a8 a9 a10 a11 a14 a15 a16 a17 : Nat → Int32} {a7 a12 a13 : Nat → Int64} (H : ∀ (b12 : Nat → Int64) (b14 b15 b16 b17 : Nat → Int32), (∀ j, j < 8 → b12 j = if j = 0 then 1 else 0) → post (c, l, 1, wt, a1, a2, a3, a4, a5, a6, a7, a8, a9, a10, a11, b12, a13, b14, b15, b16, b17)) : wpX_begin post (c, l, lv, wt, a1, a2, a3, a4, a5, a6, a7, a8, a9, a10, a11, a12, a13, a14, a15, a16, a17) 0 :=
  br_t rfl (av_beg11 H)
theorem av_beginN {post : St2 → Prop} {c l lv wt : Int32} {a1 a2 a3 a4 a5 a6 a8 a9 a10 a11 a14 a15 a16 a17 : Nat → Int32} {a7 a12 a13 : Nat → Int64} {x : Int32} (hx : ¬ x = 0) (H : ∀ b14 b15 b16 b17 : Nat → Int32, (∀ j, j < 3 → b14 j = 1) → (∀ j, j < 3 → b15 j = 0) → (∀ j, j < 3 → b16 j = 0) → (∀ j, j < 16 → b17 j = 0) → post (c, l, 1, wt, a1, a2, a3, a4, a5, a6, a7, a8, a9, a10, a11, a12, a13, b14, b15, b16, b17)) : wpX_begin post (c, l, lv, wt, a1, a2, a3, a4, a5, a6, a7, a8, a9, a10, a11, a12, a13, a14, a15, a16, a17) x :=
  br_f hx (av_beg40 H)
/-! load -/
theorem av_ld99 {post : St2 → Prop} {c l lv wt : Int32} {a1 a2 a3 a4 a5 a6 a8 a9 a10 a11 a14 a15 a16 a17 : Nat → Int32} {a7 a12 a13 : Nat → Int64} {p : Nat} (hp : p < 21) (H : ∀ b : Nat → Int32, (∀ j, j < 16 → b j = vp_nar .byte (a11 (16 * p + j))) → post (c, l, lv, wt, a1, a2, a3, a4, a5, a6, a7, a8, a9, a10, a11, a12, a13, a14, a15, a16, b)) : ∃ n, wX_load_99 post (nI p) c l lv wt n 0 a1 a2 a3 a4 a5 a6 a7 a8 a9 a10 a11 a12 a13 a14 a15 a16 a17 :=
  pk_loop (fun n i s => wX_load_99 post (nI p) c l lv wt n (nI i) a1 a2 a3 a4 a5 a6 a7 a8 a9 a10 a11 a12 a13 a14 a15 a16 s) (fun i s => ∀ j, j < i → s j = vp_nar .byte (a11 (16 * p + j))) 16 0 a17 (by omega) (fun j hj => absurd hj (by omega))
    (fun n s h => pk_le 16 16 (fun _ => H s h) (fun z => absurd z (by omega)))
    (fun n i s hi h hw => pk_le 16 i (fun z => absurd z (by omega)) (fun _ => ⟨pk_in (16 * p + i) 336 (by omega) (av_i16 p i), pk_in i 16 hi, nm_e (nm_r (nI_1 i) (hw _ (av_fill (f := fun j => vp_nar .byte (a11 (16 * p + j))) (nI_clamp (by omega)) h (by rw [av_clN (16 * p + i) (by omega) (av_i16 p i)]))))⟩))
theorem av_ld38 {post : St2 → Prop} {c l lv wt : Int32} {a1 a2 a3 a4 a5 a6 a8 a9 a10 a11 a14 a15 a16 a17 : Nat → Int32} {a7 a12 a13 : Nat → Int64} {p : Nat} (hp : p < 21) (H : ∀ b14 b15 b16 b17 : Nat → Int32, (∀ j, j < 3 → b14 j = vp_nar .short (a8 (3 * p + j))) → (∀ j, j < 3 → b15 j = vp_nar .byte (a9 (3 * p + j))) → (∀ j, j < 3 → b16 j = vp_nar .byte (a10 (3 * p + j))) → (∀ j, j < 16 → b17 j = vp_nar .byte (a11 (16 * p + j))) → post (c, l, lv, wt, a1, a2, a3, a4, a5, a6, a7, a8, a9, a10, a11, a12, a13, b14, b15, b16, b17)) : ∃ n, wX_load_38 post (nI p) c l lv wt n 0 a1 a2 a3 a4 a5 a6 a7 a8 a9 a10 a11 a12 a13 a14 a15 a16 a17 :=
  pk_loop (σ := (Nat → Int32) × (Nat → Int32) × (Nat → Int32)) (fun n i s => wX_load_38 post (nI p) c l lv wt n (nI i) a1 a2 a3 a4 a5 a6 a7 a8 a9 a10 a11 a12 a13 s.1 s.2.1 s.2.2 a17) (fun i s => (∀ j, j < i → s.1 j = vp_nar .short (a8 (3 * p + j))) ∧ (∀ j, j < i → s.2.1 j = vp_nar .byte (a9 (3 * p + j))) ∧ (∀ j, j < i → s.2.2 j = vp_nar .byte (a10 (3 * p + j)))) 3 0 (a14, a15, a16) (by omega) ⟨fun j hj => absurd hj (by omega), fun j hj => absurd hj (by omega), fun j hj => absurd hj (by omega)⟩
    (fun n s h => pk_le 3 3 (fun _ => av_ld99 hp (fun b hb => H _ _ _ b h.1 h.2.1 h.2.2 hb)) (fun z => absurd z (by omega)))
    (fun n i s hi h hw => pk_le 3 i (fun z => absurd z (by omega)) (fun _ => ⟨pk_in (3 * p + i) 63 (by omega) (av_i3 p i), pk_in i 3 hi, nm_e ⟨pk_in (3 * p + i) 63 (by omega) (av_i3 p i), pk_in i 3 hi, nm_e ⟨pk_in (3 * p + i) 63 (by omega) (av_i3 p i), pk_in i 3 hi, nm_e (nm_r (nI_1 i) (hw (upd s.1 (nI i).toNatClampNeg (vp_nar .short (a8 (3 * nI p + nI i).toNatClampNeg)), upd s.2.1 (nI i).toNatClampNeg (vp_nar .byte (a9 (3 * nI p + nI i).toNatClampNeg)), upd s.2.2 (nI i).toNatClampNeg (vp_nar .byte (a10 (3 * nI p + nI i).toNatClampNeg)))
      ⟨av_fill (f := fun j => vp_nar .short (a8 (3 * p + j))) (nI_clamp (by omega)) h.1 (by rw [av_clN (3 * p + i) (by omega) (av_i3 p i)]), av_fill (f := fun j => vp_nar .byte (a9 (3 * p + j))) (nI_clamp (by omega)) h.2.1 (by rw [av_clN (3 * p + i) (by omega) (av_i3 p i)]), av_fill (f := fun j => vp_nar .byte (a10 (3 * p + j))) (nI_clamp (by omega)) h.2.2 (by rw [av_clN (3 * p + i) (by omega) (av_i3 p i)])⟩))⟩⟩⟩))
theorem av_load {post : St2 → Prop} {c l lv wt : Int32} {a1 a2 a3 a4 a5 a6 a8 a9 a10 a11 a14 a15 a16 a17 : Nat → Int32} {a7 a12 a13 : Nat → Int64} {p : Nat} {x : Int32} (hp : p < 21) (H : ∀ (b12 : Nat → Int64) (b14 b15 b16 b17 : Nat → Int32), (∀ j, j < 8 → b12 j = a7 (8 * p + j)) → (∀ j, j < 3 → b14 j = vp_nar .short (a8 (3 * p + j))) → (∀ j, j < 3 → b15 j = vp_nar .byte (a9 (3 * p + j))) → (∀ j, j < 3 → b16 j = vp_nar .byte (a10 (3 * p + j))) → (∀ j, j < 16 → b17 j = vp_nar .byte (a11 (16 * p + j))) → post (c, l, 1, wt, a1, a2, a3, a4, a5, a6, a7, a8, a9, a10, a11, b12, a13, b14, b15, b16, b17)) : wpX_load post (c, l, lv, wt, a1, a2, a3, a4, a5, a6, a7, a8, a9, a10, a11, a12, a13, a14, a15, a16, a17) x (nI p) :=
  pk_loop (fun n i s => wX_load_7 post (nI p) c l 1 wt n (nI i) a1 a2 a3 a4 a5 a6 a7 a8 a9 a10 a11 s a13 a14 a15 a16 a17) (fun i s => ∀ j, j < i → s j = a7 (8 * p + j)) 8 0 a12 (by omega) (fun j hj => absurd hj (by omega))
    (fun n s h => pk_le 8 8 (fun _ => av_ld38 hp (fun b14 b15 b16 b17 h14 h15 h16 h17 => H s b14 b15 b16 b17 h h14 h15 h16 h17)) (fun z => absurd z (by omega)))
    (fun n i s hi h hw => pk_le 8 i (fun z => absurd z (by omega)) (fun _ => ⟨pk_in (8 * p + i) 168 (by omega) (av_i8 p i), pk_in i 8 hi, nm_e (nm_r (nI_1 i) (hw _ (av_fillL (f := fun j => a7 (8 * p + j)) (nI_clamp (by omega)) h (by rw [av_clN (8 * p + i) (by omega) (av_i8 p i)]))))⟩))
end
section
/-! clearForm -/
theorem av_cl89n {post : St2 → Prop} {c l lv wt : Int32} {a1 a2 a3 a4 a5 a6 a8 a9 a10 a11 a14 a15 a16 a17 : Nat → Int32} {a7 a12 a13 : Nat → Int64} {x y : Int32} (hx : ¬ x = 3) (H : post (c, l, lv, wt, a1, a2, a3, a4, a5, a6, a7, a8, a9, a10, a11, a12, a13, a14, a15, a16, a17)) : ∃ n, wX_clearForm_89 post x y c l lv wt n 0 a1 a2 a3 a4 a5 a6 a7 a8 a9 a10 a11 a12 a13 a14 a15 a16 a17 :=
  ⟨1, br_f (by decide) (br_f hx H)⟩
theorem av_cl89_3 {post : St2 → Prop} {c l lv wt : Int32} {a1 a2 a3 a4 a5 a6 a8 a9 a10 a11 a14 a15 a16 a17 : Nat → Int32} {a7 a12 a13 : Nat → Int64} {p : Nat} (hp : p < 21) (H : ∀ b : Nat → Int32, (∀ j, j < 16 → b (16 * p + j) = -20) → post (c, l, lv, wt, a1, a2, a3, a4, a5, a6, a7, a8, a9, a10, b, a12, a13, a14, a15, a16, a17)) : ∃ n, wX_clearForm_89 post 3 (nI p) c l lv wt n 0 a1 a2 a3 a4 a5 a6 a7 a8 a9 a10 a11 a12 a13 a14 a15 a16 a17 :=
  pk_loop (fun n i s => wX_clearForm_89 post 3 (nI p) c l lv wt n (nI i) a1 a2 a3 a4 a5 a6 a7 a8 a9 a10 s a12 a13 a14 a15 a16 a17) (fun i s => ∀ j, j < i → s (16 * p + j) = -20) 16 0 a11 (by omega) (fun j hj => absurd hj (by omega))
    (fun n s h => pk_le 16 16 (fun _ => H s h) (fun z => absurd z (by omega)))
    (fun n i s hi h hw => pk_le 16 i (fun z => absurd z (by omega)) (fun _ => br_t rfl ⟨pk_in (16 * p + i) 336 (by omega) (av_i16 p i), nm_e (nm_r (nI_1 i) (hw _ (av_fillO (f := fun _ => -20) (av_clN (16 * p + i) (by omega) (av_i16 p i)) h rfl)))⟩))
theorem av_cl32n {post : St2 → Prop} {c l lv wt : Int32} {a1 a2 a3 a4 a5 a6 a8 a9 a10 a11 a14 a15 a16 a17 : Nat → Int32} {a7 a12 a13 : Nat → Int64} {x y : Int32} (h1 : ¬ x = 1) (h2 : ¬ x = 2) (H : ∃ n, wX_clearForm_89 post x y c l lv wt n 0 a1 a2 a3 a4 a5 a6 a7 a8 a9 a10 a11 a12 a13 a14 a15 a16 a17) : ∃ n, wX_clearForm_32 post x y c l lv wt n 0 a1 a2 a3 a4 a5 a6 a7 a8 a9 a10 a11 a12 a13 a14 a15 a16 a17 :=
  pk_loop (σ := Unit) (fun n i _ => wX_clearForm_32 post x y c l lv wt n (nI i) a1 a2 a3 a4 a5 a6 a7 a8 a9 a10 a11 a12 a13 a14 a15 a16 a17) (fun _ _ => True) 3 0 () (by omega) trivial
    (fun n _ _ => pk_le 3 3 (fun _ => H) (fun z => absurd z (by omega)))
    (fun n i _ hi _ hw => pk_le 3 i (fun z => absurd z (by omega)) (fun _ => br_f h1 (br_f h2 (nm_r (nI_1 i) (hw () trivial)))))
theorem av_cl32_1 {post : St2 → Prop} {c l lv wt : Int32} {a1 a2 a3 a4 a5 a6 a8 a9 a10 a11 a14 a15 a16 a17 : Nat → Int32} {a7 a12 a13 : Nat → Int64} {p : Nat} (hp : p < 21) (H : ∀ b : Nat → Int32, (∀ j, j < 3 → b (3 * p + j) = 0) → ∃ n, wX_clearForm_89 post 1 (nI p) c l lv wt n 0 a1 a2 a3 a4 a5 a6 a7 b a9 a10 a11 a12 a13 a14 a15 a16 a17) : ∃ n, wX_clearForm_32 post 1 (nI p) c l lv wt n 0 a1 a2 a3 a4 a5 a6 a7 a8 a9 a10 a11 a12 a13 a14 a15 a16 a17 :=
  pk_loop (fun n i s => wX_clearForm_32 post 1 (nI p) c l lv wt n (nI i) a1 a2 a3 a4 a5 a6 a7 s a9 a10 a11 a12 a13 a14 a15 a16 a17) (fun i s => ∀ j, j < i → s (3 * p + j) = 0) 3 0 a8 (by omega) (fun j hj => absurd hj (by omega))
    (fun n s h => pk_le 3 3 (fun _ => H s h) (fun z => absurd z (by omega)))
    (fun n i s hi h hw => pk_le 3 i (fun z => absurd z (by omega)) (fun _ => br_t rfl ⟨pk_in (3 * p + i) 63 (by omega) (av_i3 p i), nm_e (br_f (by decide) (nm_r (nI_1 i) (hw _ (av_fillO (f := fun _ => 0) (av_clN (3 * p + i) (by omega) (av_i3 p i)) h rfl))))⟩))
theorem av_cl32_2 {post : St2 → Prop} {c l lv wt : Int32} {a1 a2 a3 a4 a5 a6 a8 a9 a10 a11 a14 a15 a16 a17 : Nat → Int32} {a7 a12 a13 : Nat → Int64} {p : Nat} (hp : p < 21) (H : ∀ b9 b10 : Nat → Int32, (∀ j, j < 3 → b9 (3 * p + j) = 7) → (∀ j, j < 3 → b10 (3 * p + j) = 0) → ∃ n, wX_clearForm_89 post 2 (nI p) c l lv wt n 0 a1 a2 a3 a4 a5 a6 a7 a8 b9 b10 a11 a12 a13 a14 a15 a16 a17) : ∃ n, wX_clearForm_32 post 2 (nI p) c l lv wt n 0 a1 a2 a3 a4 a5 a6 a7 a8 a9 a10 a11 a12 a13 a14 a15 a16 a17 :=
  pk_loop (σ := (Nat → Int32) × (Nat → Int32)) (fun n i s => wX_clearForm_32 post 2 (nI p) c l lv wt n (nI i) a1 a2 a3 a4 a5 a6 a7 a8 s.1 s.2 a11 a12 a13 a14 a15 a16 a17) (fun i s => (∀ j, j < i → s.1 (3 * p + j) = 7) ∧ (∀ j, j < i → s.2 (3 * p + j) = 0)) 3 0 (a9, a10) (by omega) ⟨fun j hj => absurd hj (by omega), fun j hj => absurd hj (by omega)⟩
    (fun n s h => pk_le 3 3 (fun _ => H s.1 s.2 h.1 h.2) (fun z => absurd z (by omega)))
    (fun n i s hi h hw => pk_le 3 i (fun z => absurd z (by omega)) (fun _ => br_f (by decide) (br_t rfl ⟨pk_in (3 * p + i) 63 (by omega) (av_i3 p i), nm_e ⟨pk_in (3 * p + i) 63 (by omega) (av_i3 p i), nm_e (nm_r (nI_1 i) (hw (upd s.1 (3 * nI p + nI i).toNatClampNeg 7, upd s.2 (3 * nI p + nI i).toNatClampNeg 0) ⟨av_fillO (f := fun _ => 7) (av_clN (3 * p + i) (by omega) (av_i3 p i)) h.1 rfl, av_fillO (f := fun _ => 0) (av_clN (3 * p + i) (by omega) (av_i3 p i)) h.2 rfl⟩))⟩⟩)))
theorem av_clear0 {post : St2 → Prop} {c l lv wt : Int32} {a1 a2 a3 a4 a5 a6 a8 a9 a10 a11 a14 a15 a16 a17 : Nat → Int32} {a7 a12 a13 : Nat → Int64} {p : Nat} (hp : p < 21) (H : ∀ b : Nat → Int64, (∀ j, j < 8 → b (8 * p + j) = 0) → post (c, l, lv, wt, a1, a2, a3, a4, a5, a6, b, a8, a9, a10, a11, a12, a13, a14, a15, a16, a17)) : wpX_clearForm post (c, l, lv, wt, a1, a2, a3, a4, a5, a6, a7, a8, a9, a10, a11, a12, a13, a14, a15, a16, a17) 0 (nI p) :=
  pk_loop (fun n i s => wX_clearForm_2 post 0 (nI p) c l lv wt n (nI i) a1 a2 a3 a4 a5 a6 s a8 a9 a10 a11 a12 a13 a14 a15 a16 a17) (fun i s => ∀ j, j < i → s (8 * p + j) = 0) 8 0 a7 (by omega) (fun j hj => absurd hj (by omega))
    (fun n s h => pk_le 8 8 (fun _ => av_cl32n (by decide) (by decide) (av_cl89n (by decide) (H s h))) (fun z => absurd z (by omega)))
    (fun n i s hi h hw => pk_le 8 i (fun z => absurd z (by omega)) (fun _ => br_t rfl ⟨pk_in (8 * p + i) 168 (by omega) (av_i8 p i), nm_e (nm_r (nI_1 i) (hw _ (av_fillOL (f := fun _ => 0) (av_clN (8 * p + i) (by omega) (av_i8 p i)) h rfl)))⟩))
theorem av_clear1 {post : St2 → Prop} {c l lv wt : Int32} {a1 a2 a3 a4 a5 a6 a8 a9 a10 a11 a14 a15 a16 a17 : Nat → Int32} {a7 a12 a13 : Nat → Int64} {p : Nat} (hp : p < 21) (H : ∀ b : Nat → Int32, (∀ j, j < 3 → b (3 * p + j) = 0) → post (c, l, lv, wt, a1, a2, a3, a4, a5, a6, a7, b, a9, a10, a11, a12, a13, a14, a15, a16, a17)) : wpX_clearForm post (c, l, lv, wt, a1, a2, a3, a4, a5, a6, a7, a8, a9, a10, a11, a12, a13, a14, a15, a16, a17) 1 (nI p) :=
  ⟨1, br_f (by decide) (br_f (by decide) (av_cl32_1 hp (fun b hb => av_cl89n (by decide) (H b hb))))⟩
theorem av_clear2 {post : St2 → Prop} {c l lv wt : Int32} {a1 a2 a3 a4 a5 a6 a8 a9 a10 a11 a14 a15 a16 a17 : Nat → Int32} {a7 a12 a13 : Nat → Int64} {p : Nat} (hp : p < 21) (H : ∀ b9 b10 : Nat → Int32, (∀ j, j < 3 → b9 (3 * p + j) = 7) → (∀ j, j < 3 → b10 (3 * p + j) = 0) → post (c, l, lv, wt, a1, a2, a3, a4, a5, a6, a7, a8, b9, b10, a11, a12, a13, a14, a15, a16, a17)) : wpX_clearForm post (c, l, lv, wt, a1, a2, a3, a4, a5, a6, a7, a8, a9, a10, a11, a12, a13, a14, a15, a16, a17) 2 (nI p) :=
  ⟨1, br_f (by decide) (br_f (by decide) (av_cl32_2 hp (fun b9 b10 h9 h10 => av_cl89n (by decide) (H b9 b10 h9 h10))))⟩
theorem av_clear3 {post : St2 → Prop} {c l lv wt : Int32} {a1 a2 a3 a4 a5 a6 a8 a9 a10 a11 a14 a15 a16 a17 : Nat → Int32} {a7 a12 a13 : Nat → Int64} {p : Nat} (hp : p < 21) (H : ∀ b : Nat → Int32, (∀ j, j < 16 → b (16 * p + j) = -20) → post (c, l, lv, wt, a1, a2, a3, a4, a5, a6, a7, a8, a9, a10, b, a12, a13, a14, a15, a16, a17)) : wpX_clearForm post (c, l, lv, wt, a1, a2, a3, a4, a5, a6, a7, a8, a9, a10, a11, a12, a13, a14, a15, a16, a17) 3 (nI p) :=
  ⟨1, br_f (by decide) (br_f (by decide) (av_cl32n (by decide) (by decide) (av_cl89_3 hp H)))⟩
/-! the four joins into an empty form -/
theorem av_stI {f g s : Nat → Int32} {p N i k : Nat} {x : Int32} (hk : k = p + i) (h : ∀ j, j < N → s (p + j) = if j < i then f j else g j) (hx : x = f i) : ∀ j, j < N → upd s k x (p + j) = if j < i + 1 then f j else g j := by
  intro j hj
  rw [hk]
  by_cases e : j = i
  · rw [e, pk_us, hx, if_pos (by omega)]
  · rw [pk_un (by omega), h j hj]
    by_cases z : j < i
    · rw [if_pos z, if_pos (by omega)]
    · rw [if_neg z, if_neg (by omega)]
theorem av_stN {f g s : Nat → Int32} {p N i : Nat} (h : ∀ j, j < N → s (p + j) = if j < i then f j else g j) (hx : g i = f i) : ∀ j, j < N → s (p + j) = if j < i + 1 then f j else g j := by
  intro j hj
  rw [h j hj]
  by_cases e : j = i
  · rw [e, if_neg (by omega), if_pos (by omega), hx]
  · by_cases z : j < i
    · rw [if_pos z, if_pos (by omega)]
    · rw [if_neg z, if_neg (by omega)]
theorem av_stIL {f g s : Nat → Int64} {p N i k : Nat} {x : Int64} (hk : k = p + i) (h : ∀ j, j < N → s (p + j) = if j < i then f j else g j) (hx : x = f i) : ∀ j, j < N → vp_updL s k x (p + j) = if j < i + 1 then f j else g j := by
  intro j hj
  rw [hk]
  by_cases e : j = i
  · rw [e, pk_uLs, hx, if_pos (by omega)]
  · rw [pk_uLn (by omega), h j hj]
    by_cases z : j < i
    · rw [if_pos z, if_pos (by omega)]
    · rw [if_neg z, if_neg (by omega)]
theorem av_stNL {f g s : Nat → Int64} {p N i : Nat} (h : ∀ j, j < N → s (p + j) = if j < i then f j else g j) (hx : g i = f i) : ∀ j, j < N → s (p + j) = if j < i + 1 then f j else g j := by
  intro j hj
  rw [h j hj]
  by_cases e : j = i
  · rw [e, if_neg (by omega), if_pos (by omega), hx]
  · by_cases z : j < i
    · rw [if_pos z, if_pos (by omega)]
    · rw [if_neg z, if_neg (by omega)]
theorem av_and64 (x : Int64) : x &&& ((0 : Int64) ^^^ (-1)) = x := by
  apply Int64.toBitVec_inj.mp
  rw [Int64.toBitVec_and]
  show x.toBitVec &&& BitVec.allOnes 64 = x.toBitVec
  exact BitVec.and_allOnes
theorem av_or64 (x : Int64) : (0 : Int64) ||| x = x := by
  apply Int64.toBitVec_inj.mp
  rw [Int64.toBitVec_or]
  show 0#64 ||| x.toBitVec = x.toBitVec
  simp
theorem av_and32 (x : Int32) : x &&& ((0 : Int32) ^^^ (-1)) = x := by
  apply Int32.toBitVec_inj.mp
  rw [Int32.toBitVec_and]
  show x.toBitVec &&& BitVec.allOnes 32 = x.toBitVec
  exact BitVec.and_allOnes
theorem av_or32 (x : Int32) : (0 : Int32) ||| x = x := by
  apply Int32.toBitVec_inj.mp
  rw [Int32.toBitVec_or]
  show 0#32 ||| x.toBitVec = x.toBitVec
  simp
theorem av_joinStates {post : Int32 → St2 → Prop} {c l lv wt : Int32} {a1 a2 a3 a4 a5 a6 a8 a9 a10 a11 a14 a15 a16 a17 : Nat → Int32} {a7 a12 a13 : Nat → Int64} {p : Nat} (hp : p < 21) (h7 : ∀ j, j < 8 → a7 (8 * p + j) = 0) (H : ∀ (r : Int32) (b : Nat → Int64), (∀ j, j < 8 → b (8 * p + j) = a12 j) → post r (c, l, lv, wt, a1, a2, a3, a4, a5, a6, b, a8, a9, a10, a11, a12, a13, a14, a15, a16, a17)) : wpX_joinStates post (c, l, lv, wt, a1, a2, a3, a4, a5, a6, a7, a8, a9, a10, a11, a12, a13, a14, a15, a16, a17) (nI p) := by
  refine pk_loop (σ := Int32 × (Nat → Int64)) (fun n i s => wX_joinStates_4 post (nI p) c l lv wt n s.1 (nI i) a1 a2 a3 a4 a5 a6 s.2 a8 a9 a10 a11 a12 a13 a14 a15 a16 a17) (fun i s => (s.1 = 0 ∨ s.1 = 1) ∧ (∀ j, j < 8 → s.2 (8 * p + j) = if j < i then a12 j else 0)) 8 0 (0, a7) (by omega) ⟨Or.inl rfl, fun j hj => h7 j hj⟩
    (fun n s h => pk_le 8 8 (fun _ => ⟨av_bool h.1, H _ _ (fun j hj => by rw [h.2 j hj, if_pos hj])⟩) (fun z => absurd z (by omega)))
    (fun n i s hi h hw => pk_le 8 i (fun z => absurd z (by omega)) (fun _ => ⟨pk_in i 8 hi, pk_in (8 * p + i) 168 (by omega) (av_i8 p i), ?_⟩))
  have e : s.2 (8 * nI p + nI i).toNatClampNeg = 0 := by
    rw [av_clN (8 * p + i) (by omega) (av_i8 p i), h.2 i hi, if_neg (by omega)]
  rw [e, av_and64, av_or64, nI_clamp (show i < 2 ^ 31 by omega)]
  refine br_c (fun z => nm_r (nI_1 i) (hw (s.1, s.2) ⟨h.1, av_stNL (g := fun _ => 0) h.2 z.symm⟩)) (fun z => ⟨pk_in (8 * p + i) 168 (by omega) (av_i8 p i), pk_in i 8 hi, pk_in (8 * p + i) 168 (by omega) (av_i8 p i), nm_e (nm_r (nI_1 i) (hw (1, vp_updL s.2 (8 * nI p + nI i).toNatClampNeg (a12 i)) ⟨Or.inr rfl, av_stIL (g := fun _ => 0) (av_clN (8 * p + i) (by omega) (av_i8 p i)) h.2 rfl⟩))⟩)
theorem av_joinSets {post : Int32 → St2 → Prop} {c l lv wt : Int32} {a1 a2 a3 a4 a5 a6 a8 a9 a10 a11 a14 a15 a16 a17 : Nat → Int32} {a7 a12 a13 : Nat → Int64} {p : Nat} (hp : p < 21) (h8 : ∀ j, j < 3 → a8 (3 * p + j) = 0) (h14 : ∀ j, j < 3 → (a14 j).toInt16.toInt32 = a14 j) (H : ∀ (r : Int32) (b : Nat → Int32), (∀ j, j < 3 → b (3 * p + j) = a14 j) → post r (c, l, lv, wt, a1, a2, a3, a4, a5, a6, a7, b, a9, a10, a11, a12, a13, a14, a15, a16, a17)) : wpX_joinSets post (c, l, lv, wt, a1, a2, a3, a4, a5, a6, a7, a8, a9, a10, a11, a12, a13, a14, a15, a16, a17) (nI p) := by
  refine pk_loop (σ := Int32 × (Nat → Int32)) (fun n i s => wX_joinSets_4 post (nI p) c l lv wt n s.1 (nI i) a1 a2 a3 a4 a5 a6 a7 s.2 a9 a10 a11 a12 a13 a14 a15 a16 a17) (fun i s => (s.1 = 0 ∨ s.1 = 1) ∧ (∀ j, j < 3 → s.2 (3 * p + j) = if j < i then a14 j else 0)) 3 0 (0, a8) (by omega) ⟨Or.inl rfl, fun j hj => h8 j hj⟩
    (fun n s h => pk_le 3 3 (fun _ => ⟨av_bool h.1, H _ _ (fun j hj => by rw [h.2 j hj, if_pos hj])⟩) (fun z => absurd z (by omega)))
    (fun n i s hi h hw => pk_le 3 i (fun z => absurd z (by omega)) (fun _ => ⟨pk_in i 3 hi, pk_in (3 * p + i) 63 (by omega) (av_i3 p i), ?_⟩))
  have e : s.2 (3 * nI p + nI i).toNatClampNeg = 0 := by
    rw [av_clN (3 * p + i) (by omega) (av_i3 p i), h.2 i hi, if_neg (by omega)]
  rw [e, av_and32, av_or32, nI_clamp (show i < 2 ^ 31 by omega), h14 i hi]
  refine br_c (fun z => nm_r (nI_1 i) (hw (s.1, s.2) ⟨h.1, av_stN (g := fun _ => 0) h.2 z.symm⟩)) (fun z => ⟨pk_in (3 * p + i) 63 (by omega) (av_i3 p i), pk_in i 3 hi, pk_in (3 * p + i) 63 (by omega) (av_i3 p i), nm_e (nm_r (nI_1 i) (hw (1, upd s.2 (3 * nI p + nI i).toNatClampNeg (a14 i)) ⟨Or.inr rfl, av_stI (g := fun _ => 0) (av_clN (3 * p + i) (by omega) (av_i3 p i)) h.2 rfl⟩))⟩)
theorem av_joinBounds {post : Int32 → St2 → Prop} {c l lv wt : Int32} {a1 a2 a3 a4 a5 a6 a8 a9 a10 a11 a14 a15 a16 a17 : Nat → Int32} {a7 a12 a13 : Nat → Int64} {p : Nat} (hp : p < 21) (h11 : ∀ j, j < 16 → a11 (16 * p + j) = -20) (h17 : ∀ j, j < 16 → vp_nar .byte (a17 j) = a17 j ∧ (-20 < a17 j)) (H : ∀ (r : Int32) (b : Nat → Int32), (∀ j, j < 16 → b (16 * p + j) = a17 j) → post r (c, l, lv, wt, a1, a2, a3, a4, a5, a6, a7, a8, a9, a10, b, a12, a13, a14, a15, a16, a17)) : wpX_joinBounds post (c, l, lv, wt, a1, a2, a3, a4, a5, a6, a7, a8, a9, a10, a11, a12, a13, a14, a15, a16, a17) (nI p) := by
  refine pk_loop (σ := Int32 × (Nat → Int32)) (fun n i s => wX_joinBounds_4 post (nI p) c l lv wt n s.1 (nI i) a1 a2 a3 a4 a5 a6 a7 a8 a9 a10 s.2 a12 a13 a14 a15 a16 a17) (fun i s => (s.1 = 0 ∨ s.1 = 1) ∧ (∀ j, j < 16 → s.2 (16 * p + j) = if j < i then a17 j else -20)) 16 0 (0, a11) (by omega) ⟨Or.inl rfl, fun j hj => h11 j hj⟩
    (fun n s h => pk_le 16 16 (fun _ => ⟨av_bool h.1, H _ _ (fun j hj => by rw [h.2 j hj, if_pos hj])⟩) (fun z => absurd z (by omega)))
    (fun n i s hi h hw => pk_le 16 i (fun z => absurd z (by omega)) (fun _ => ⟨pk_in i 16 hi, pk_in (16 * p + i) 336 (by omega) (av_i16 p i), ?_⟩))
  have e : s.2 (16 * nI p + nI i).toNatClampNeg = -20 := by
    rw [av_clN (16 * p + i) (by omega) (av_i16 p i), h.2 i hi, if_neg (by omega)]
  rw [e, nI_clamp (show i < 2 ^ 31 by omega), (h17 i hi).1]
  exact br_t (h17 i hi).2 ⟨pk_in i 16 hi, pk_in (16 * p + i) 336 (by omega) (av_i16 p i), nm_e (nm_r (nI_1 i) (hw (1, upd s.2 (16 * nI p + nI i).toNatClampNeg (a17 i)) ⟨Or.inr rfl, av_stI (g := fun _ => -20) (av_clN (16 * p + i) (by omega) (av_i16 p i)) h.2 rfl⟩))⟩
theorem av_joinRanges {post : Int32 → St2 → Prop} {c l lv wt : Int32} {a1 a2 a3 a4 a5 a6 a8 a9 a10 a11 a14 a15 a16 a17 : Nat → Int32} {a7 a12 a13 : Nat → Int64} {p : Nat} (hp : p < 21) (h9 : ∀ j, j < 3 → a9 (3 * p + j) = 7) (h10 : ∀ j, j < 3 → a10 (3 * p + j) = 0) (h15 : ∀ j, j < 3 → vp_nar .byte (a15 j) = a15 j ∧ a15 j ≤ 7) (h16 : ∀ j, j < 3 → vp_nar .byte (a16 j) = a16 j ∧ 0 ≤ a16 j) (H : ∀ (r : Int32) (b9 b10 : Nat → Int32), (∀ j, j < 3 → b9 (3 * p + j) = a15 j) → (∀ j, j < 3 → b10 (3 * p + j) = a16 j) → post r (c, l, lv, wt, a1, a2, a3, a4, a5, a6, a7, a8, b9, b10, a11, a12, a13, a14, a15, a16, a17)) : wpX_joinRanges post (c, l, lv, wt, a1, a2, a3, a4, a5, a6, a7, a8, a9, a10, a11, a12, a13, a14, a15, a16, a17) (nI p) := by
  refine pk_loop (σ := Int32 × (Nat → Int32) × (Nat → Int32)) (fun n i s => wX_joinRanges_4 post (nI p) c l lv wt n s.1 (nI i) a1 a2 a3 a4 a5 a6 a7 a8 s.2.1 s.2.2 a11 a12 a13 a14 a15 a16 a17) (fun i s => (s.1 = 0 ∨ s.1 = 1) ∧ (∀ j, j < 3 → s.2.1 (3 * p + j) = if j < i then a15 j else 7) ∧ (∀ j, j < 3 → s.2.2 (3 * p + j) = if j < i then a16 j else 0)) 3 0 (0, a9, a10) (by omega) ⟨Or.inl rfl, fun j hj => h9 j hj, fun j hj => h10 j hj⟩
    (fun n s h => pk_le 3 3 (fun _ => ⟨av_bool h.1, H _ _ _ (fun j hj => by rw [h.2.1 j hj, if_pos hj]) (fun j hj => by rw [h.2.2 j hj, if_pos hj])⟩) (fun z => absurd z (by omega)))
    (fun n i s hi h hw => pk_le 3 i (fun z => absurd z (by omega)) (fun _ => ⟨pk_in i 3 hi, pk_in (3 * p + i) 63 (by omega) (av_i3 p i), ?_⟩))
  have e9 : s.2.1 (3 * nI p + nI i).toNatClampNeg = 7 := by
    rw [av_clN (3 * p + i) (by omega) (av_i3 p i), h.2.1 i hi, if_neg (by omega)]
  have e10 : s.2.2 (3 * nI p + nI i).toNatClampNeg = 0 := by
    rw [av_clN (3 * p + i) (by omega) (av_i3 p i), h.2.2 i hi, if_neg (by omega)]
  have K : ∀ (r : Int32) (b : Nat → Int32), (r = 0 ∨ r = 1) → (∀ j, j < 3 → b (3 * p + j) = if j < i + 1 then a15 j else 7) → wX_joinRanges_46 post (wX_joinRanges_4 post (nI p) c l lv wt n) (nI p) r (nI i) c l lv wt a1 a2 a3 a4 a5 a6 a7 a8 b s.2.2 a11 a12 a13 a14 a15 a16 a17 := by
    intro r b hr hb
    unfold wX_joinRanges_46
    refine ⟨pk_in i 3 hi, pk_in (3 * p + i) 63 (by omega) (av_i3 p i), ?_⟩
    rw [e10, nI_clamp (show i < 2 ^ 31 by omega), (h16 i hi).1]
    refine br_c (fun z => nm_r (nI_1 i) (hw (r, b, s.2.2) ⟨hr, hb, av_stN (g := fun _ => 0) h.2.2 (Int32.le_antisymm (h16 i hi).2 z)⟩)) (fun z => ⟨pk_in i 3 hi, pk_in (3 * p + i) 63 (by omega) (av_i3 p i), nm_e (nm_r (nI_1 i) (hw (1, b, upd s.2.2 (3 * nI p + nI i).toNatClampNeg (a16 i)) ⟨Or.inr rfl, hb, av_stI (g := fun _ => 0) (av_clN (3 * p + i) (by omega) (av_i3 p i)) h.2.2 rfl⟩))⟩)
  rw [e9, nI_clamp (show i < 2 ^ 31 by omega), (h15 i hi).1]
  exact br_c (fun z => K _ _ h.1 (av_stN (g := fun _ => 7) h.2.1 (Int32.le_antisymm z (h15 i hi).2))) (fun z => ⟨pk_in i 3 hi, pk_in (3 * p + i) 63 (by omega) (av_i3 p i), nm_e (K 1 _ (Or.inr rfl) (av_stI (g := fun _ => 7) (av_clN (3 * p + i) (by omega) (av_i3 p i)) h.2.1 rfl))⟩)
/-! join into a place that isn't filled -/
theorem av_join0 {post : St2 → Prop} {c l lv wt : Int32} {a1 a2 a3 a4 a5 a6 a8 a9 a10 a11 a14 a15 a16 a17 : Nat → Int32} {a7 a12 a13 : Nat → Int64} {p : Nat} (hp : p < 21) (hf : a6 p = 0) (H : ∀ b7 : Nat → Int64, (∀ j, j < 8 → b7 (8 * p + j) = a12 j) → post (c, l, lv, wt ||| ((1 : Int32) <<< (nI p &&& 31)), a1, a2, a3, a4, a5, upd a6 p 1, b7, a8, a9, a10, a11, a12, a13, a14, a15, a16, a17)) : wpX_join post (c, l, lv, wt, a1, a2, a3, a4, a5, a6, a7, a8, a9, a10, a11, a12, a13, a14, a15, a16, a17) 0 (nI p) := by
  unfold wpX_join
  refine av_isF0 hp (by rw [hf]; decide) (br_t rfl ⟨pk_in p 21 hp, pk_in p 21 hp, nm_r (e' := upd a6 p 1) (by rw [nI_clamp (by omega), hf]; rfl) ?_⟩)
  refine av_clear0 hp (fun b hb => br_t rfl ?_)
  refine av_joinStates hp hb (fun r b7 h7 => ?_)
  exact br_c (fun _ => br_f (by decide) (br_f (by decide) (nm_e (H b7 h7)))) (fun _ => br_f (by decide) (nm_e (H b7 h7)))
theorem av_join1 {post : St2 → Prop} {c l lv wt : Int32} {a1 a2 a3 a4 a5 a6 a8 a9 a10 a11 a14 a15 a16 a17 : Nat → Int32} {a7 a12 a13 : Nat → Int64} {p : Nat} (hp : p < 21) (hf : a6 p = 1) (h14 : ∀ j, j < 3 → (a14 j).toInt16.toInt32 = a14 j) (H : ∀ b8 : Nat → Int32, (∀ j, j < 3 → b8 (3 * p + j) = a14 j) → post (c, l, lv, wt ||| ((1 : Int32) <<< (nI p &&& 31)), a1, a2, a3, a4, a5, upd a6 p 3, a7, b8, a9, a10, a11, a12, a13, a14, a15, a16, a17)) : wpX_join post (c, l, lv, wt, a1, a2, a3, a4, a5, a6, a7, a8, a9, a10, a11, a12, a13, a14, a15, a16, a17) 1 (nI p) := by
  unfold wpX_join
  refine av_isF0 hp (by rw [hf]; decide) (br_t rfl ⟨pk_in p 21 hp, pk_in p 21 hp, nm_r (e' := upd a6 p 3) (by rw [nI_clamp (by omega), hf]; rfl) ?_⟩)
  refine av_clear1 hp (fun b hb => br_f (by decide) (br_t rfl ?_))
  refine av_joinSets hp hb h14 (fun r b8 h8 => ?_)
  exact br_c (fun _ => br_f (by decide) (br_f (by decide) (nm_e (H b8 h8)))) (fun _ => br_f (by decide) (nm_e (H b8 h8)))
theorem av_join2 {post : St2 → Prop} {c l lv wt : Int32} {a1 a2 a3 a4 a5 a6 a8 a9 a10 a11 a14 a15 a16 a17 : Nat → Int32} {a7 a12 a13 : Nat → Int64} {p : Nat} (hp : p < 21) (hf : a6 p = 11) (h15 : ∀ j, j < 3 → vp_nar .byte (a15 j) = a15 j ∧ a15 j ≤ 7) (h16 : ∀ j, j < 3 → vp_nar .byte (a16 j) = a16 j ∧ 0 ≤ a16 j) (H : ∀ b9 b10 : Nat → Int32, (∀ j, j < 3 → b9 (3 * p + j) = a15 j) → (∀ j, j < 3 → b10 (3 * p + j) = a16 j) → post (c, l, lv, wt ||| ((1 : Int32) <<< (nI p &&& 31)), a1, a2, a3, a4, a5, upd a6 p 15, a7, a8, b9, b10, a11, a12, a13, a14, a15, a16, a17)) : wpX_join post (c, l, lv, wt, a1, a2, a3, a4, a5, a6, a7, a8, a9, a10, a11, a12, a13, a14, a15, a16, a17) 2 (nI p) := by
  unfold wpX_join
  refine av_isF0 hp (by rw [hf]; decide) (br_t rfl ⟨pk_in p 21 hp, pk_in p 21 hp, nm_r (e' := upd a6 p 15) (by rw [nI_clamp (by omega), hf]; rfl) ?_⟩)
  refine av_clear2 hp (fun b9 b10 hb9 hb10 => br_f (by decide) (br_f (by decide) (br_t rfl ?_)))
  refine av_joinRanges hp hb9 hb10 h15 h16 (fun r b9 b10 h9 h10 => ?_)
  exact br_c (fun _ => br_f (by decide) (br_f (by decide) (nm_e (H b9 b10 h9 h10)))) (fun _ => br_f (by decide) (nm_e (H b9 b10 h9 h10)))
theorem av_join3 {post : St2 → Prop} {c l lv wt : Int32} {a1 a2 a3 a4 a5 a6 a8 a9 a10 a11 a14 a15 a16 a17 : Nat → Int32} {a7 a12 a13 : Nat → Int64} {p : Nat} (hp : p < 21) (hf : a6 p = 3) (h17 : ∀ j, j < 16 → vp_nar .byte (a17 j) = a17 j ∧ (-20 < a17 j)) (H : ∀ b11 : Nat → Int32, (∀ j, j < 16 → b11 (16 * p + j) = a17 j) → post (c, l, lv, wt ||| ((1 : Int32) <<< (nI p &&& 31)), a1, a2, a3, a4, a5, upd a6 p 11, a7, a8, a9, a10, b11, a12, a13, a14, a15, a16, a17)) : wpX_join post (c, l, lv, wt, a1, a2, a3, a4, a5, a6, a7, a8, a9, a10, a11, a12, a13, a14, a15, a16, a17) 3 (nI p) := by
  unfold wpX_join
  refine av_isF0 hp (by rw [hf]; decide) (br_t rfl ⟨pk_in p 21 hp, pk_in p 21 hp, nm_r (e' := upd a6 p 11) (by rw [nI_clamp (by omega), hf]; rfl) ?_⟩)
  refine av_clear3 hp (fun b hb => br_f (by decide) (br_f (by decide) (br_f (by decide) ?_)))
  refine av_joinBounds hp hb h17 (fun r b11 h11 => ?_)
  exact br_c (fun _ => br_f (by decide) (br_f (by decide) (nm_e (H b11 h11)))) (fun _ => br_f (by decide) (nm_e (H b11 h11)))
end
section
/-! way 0: states -/
theorem av_valueIn {post : Int32 → Prop} {c l lv wt : Int32} {a1 a2 a3 a4 a5 a6 a8 a9 a10 a11 a14 a15 a16 a17 : Nat → Int32} {a7 a12 a13 : Nat → Int64} {k t : Nat} (hk : k < 512) (ht : t < 4) (H : post (nI (av_d k t))) : wpX_valueIn post (c, l, lv, wt, a1, a2, a3, a4, a5, a6, a7, a8, a9, a10, a11, a12, a13, a14, a15, a16, a17) (nI k) (nI t) := by
  refine pk_eq t 3 (fun z => ?_) (fun z => ?_)
  · have e : av_d k t = 0 := by unfold av_d; rw [if_pos z]
    rw [e] at H
    exact H
  · rw [av_dig hk (by omega)]
    exact H
theorem av_addState {post : St2 → Prop} {c l lv wt : Int32} {a1 a2 a3 a4 a5 a6 a8 a9 a10 a11 a14 a15 a16 a17 : Nat → Int32} {a7 a12 a13 : Nat → Int64} {k : Nat} (hk : k < 512) (H : ∀ b12 : Nat → Int64, (∀ t, av_mem b12 t = (av_mem a12 t || decide (t = k))) → post (c, l, 1, wt, a1, a2, a3, a4, a5, a6, a7, a8, a9, a10, a11, b12, a13, a14, a15, a16, a17)) : wpX_addState post (c, l, lv, wt, a1, a2, a3, a4, a5, a6, a7, a8, a9, a10, a11, a12, a13, a14, a15, a16, a17) (nI k) := by
  unfold wpX_addState
  have e : (nI k >>> ((6 : Int32) &&& 31)) = nI (k / 64) := av_sh6 hk
  refine And.intro (pk_in (k / 64) 8 (by omega) e) (And.intro (pk_in (k / 64) 8 (by omega) e) (nm_e ?_))
  refine H _ (fun t => ?_)
  rw [av_clN (k / 64) (by omega) e]
  exact av_madd hk
/-- the loop over the states: each member s adds ch s -/
theorem av_ap46 {post : St2 → Prop} {c l lv wt : Int32} {a1 a2 a3 a4 a5 a6 a8 a9 a10 a11 a14 a15 a16 a17 : Nat → Int32} {a7 a12 a13 : Nat → Int64} {y1 y2 y3 y4 : Int32} (ch : Nat → List Nat)
    (hch : ∀ s, s < 512 → av_mem a13 s = true → ∀ (q : St2 → Prop) (lv : Int32) (a12 : Nat → Int64), (∀ (lv' : Int32) (b12 : Nat → Int64), (∀ t, av_mem b12 t = true ↔ av_mem a12 t = true ∨ t ∈ ch s) → lv' = (if ch s = [] then lv else 1) → q (c, l, lv', wt, a1, a2, a3, a4, a5, a6, a7, a8, a9, a10, a11, b12, a13, a14, a15, a16, a17)) → wpX_changeState q (c, l, lv, wt, a1, a2, a3, a4, a5, a6, a7, a8, a9, a10, a11, a12, a13, a14, a15, a16, a17) (nI s) y1 y2 y3 y4)
    (h0 : ∀ t, t < 512 → av_mem a12 t = false) (hl : lv = 0)
    (H : ∀ (lv' : Int32) (b12 : Nat → Int64), (∀ t, t < 512 → (av_mem b12 t = true ↔ ∃ s, s < 512 ∧ av_mem a13 s = true ∧ t ∈ ch s)) → (∀ s, s < 512 → av_mem a13 s = true → ch s ≠ [] → lv' = 1) → post (c, l, lv', wt, a1, a2, a3, a4, a5, a6, a7, a8, a9, a10, a11, b12, a13, a14, a15, a16, a17)) :
    ∃ n, wX_applyToStates_46 post y1 y2 y3 y4 n 0 c l lv wt a1 a2 a3 a4 a5 a6 a7 a8 a9 a10 a11 a12 a13 a14 a15 a16 a17 := by
  refine pk_loop (σ := Int32 × (Nat → Int64)) (fun n i s => wX_applyToStates_46 post y1 y2 y3 y4 n (nI i) c l s.1 wt a1 a2 a3 a4 a5 a6 a7 a8 a9 a10 a11 s.2 a13 a14 a15 a16 a17)
    (fun i s => (∀ t, t < 512 → (av_mem s.2 t = true ↔ ∃ r, r < i ∧ av_mem a13 r = true ∧ t ∈ ch r)) ∧ (∀ r, r < i → av_mem a13 r = true → ch r ≠ [] → s.1 = 1)) 512 0 (lv, a12) (by omega)
    ⟨fun t ht => ⟨fun z => absurd z (by rw [h0 t ht]; decide), fun ⟨r, hr, _⟩ => absurd hr (by omega)⟩, fun r hr => absurd hr (by omega)⟩
    (fun n s h => pk_le 512 512 (fun _ => H s.1 s.2 h.1 h.2) (fun z => absurd z (by omega)))
    (fun n i s hi h hw => pk_le 512 i (fun z => absurd z (by omega)) (fun _ => ⟨pk_in (i / 64) 8 (by omega) (av_sh6 hi), ?_⟩))
  have e : ((((a13 (nI i >>> ((6 : Int32) &&& 31)).toNatClampNeg).toUInt64 >>> ((nI i &&& 63).toInt64.toUInt64 &&& Int64.toUInt64 63)).toInt64) &&& 1) = 0 ↔ av_mem a13 i = false := by
    rw [av_test hi, av_clN (i / 64) (by omega) (av_sh6 hi)]
    exact Iff.rfl
  refine br_c (fun z => ?_) (fun z => ?_)
  · have hm : av_mem a13 i = false := e.mp z
    refine nm_r (nI_1 i) (hw (s.1, s.2) ⟨fun t ht => ?_, fun r hr hm' => ?_⟩)
    · rw [h.1 t ht]
      constructor
      · exact fun ⟨r, hr, g⟩ => ⟨r, by omega, g⟩
      · rintro ⟨r, hr, g1, g2⟩
        by_cases er : r = i
        · rw [er, hm] at g1
          exact absurd g1 (by decide)
        · exact ⟨r, by omega, g1, g2⟩
    · by_cases er : r = i
      · rw [er, hm] at hm'
        exact absurd hm' (by decide)
      · exact h.2 r (by omega) hm'
  · have hm : av_mem a13 i = true := by
      cases hb : av_mem a13 i with
      | true => rfl
      | false => exact absurd (e.mpr hb) z
    refine hch i hi hm _ s.1 s.2 (fun lv' b12 hb hl' => nm_r (nI_1 i) (hw (lv', b12) ⟨fun t ht => ?_, fun r hr hm' hc => ?_⟩))
    · rw [hb t, h.1 t ht]
      constructor
      · rintro (⟨r, hr, g⟩ | g)
        · exact ⟨r, by omega, g⟩
        · exact ⟨i, by omega, hm, g⟩
      · rintro ⟨r, hr, g1, g2⟩
        by_cases er : r = i
        · exact Or.inr (er ▸ g2)
        · exact Or.inl ⟨r, by omega, g1, g2⟩
    · show lv' = 1
      rw [hl']
      by_cases er : r = i
      · rw [er] at hc
        rw [if_neg hc]
      · split
        · exact h.2 r (by omega) hm' hc
        · rfl
theorem av_apS {post : St2 → Prop} {c l lv wt : Int32} {a1 a2 a3 a4 a5 a6 a8 a9 a10 a11 a14 a15 a16 a17 : Nat → Int32} {a7 a12 a13 : Nat → Int64} {y1 y2 y3 y4 : Int32} (ch : Nat → List Nat)
    (hch : ∀ s, s < 512 → av_mem a12 s = true → ∀ (q : St2 → Prop) (lv : Int32) (a12 a13 : Nat → Int64), (∀ (lv' : Int32) (b12 : Nat → Int64), (∀ t, av_mem b12 t = true ↔ av_mem a12 t = true ∨ t ∈ ch s) → lv' = (if ch s = [] then lv else 1) → q (c, l, lv', wt, a1, a2, a3, a4, a5, a6, a7, a8, a9, a10, a11, b12, a13, a14, a15, a16, a17)) → wpX_changeState q (c, l, lv, wt, a1, a2, a3, a4, a5, a6, a7, a8, a9, a10, a11, a12, a13, a14, a15, a16, a17) (nI s) y1 y2 y3 y4)
    (H : ∀ (lv' : Int32) (b12 b13 : Nat → Int64), (∀ t, t < 512 → (av_mem b12 t = true ↔ ∃ s, s < 512 ∧ av_mem a12 s = true ∧ t ∈ ch s)) → (∀ s, s < 512 → av_mem a12 s = true → ch s ≠ [] → lv' = 1) → post (c, l, lv', wt, a1, a2, a3, a4, a5, a6, a7, a8, a9, a10, a11, b12, b13, a14, a15, a16, a17)) :
    wpX_applyToStates post (c, l, lv, wt, a1, a2, a3, a4, a5, a6, a7, a8, a9, a10, a11, a12, a13, a14, a15, a16, a17) y1 y2 y3 y4 := by
  refine pk_loop (σ := (Nat → Int64) × (Nat → Int64)) (fun n i s => wX_applyToStates_3 post y1 y2 y3 y4 c l lv wt n (nI i) a1 a2 a3 a4 a5 a6 a7 a8 a9 a10 a11 s.1 s.2 a14 a15 a16 a17)
    (fun i s => (∀ j, j < 8 → s.1 j = if j < i then 0 else a12 j) ∧ (∀ j, j < i → s.2 j = a12 j)) 8 0 (a12, a13) (by omega)
    ⟨fun j hj => rfl, fun j hj => absurd hj (by omega)⟩
    (fun n s h => pk_le 8 8 (fun _ => ?_) (fun z => absurd z (by omega)))
    (fun n i s hi h hw => pk_le 8 i (fun z => absurd z (by omega)) (fun _ => ⟨pk_in i 8 hi, pk_in i 8 hi, nm_e ⟨pk_in i 8 hi, nm_e (nm_r (nI_1 i) (hw (vp_updL s.1 (nI i).toNatClampNeg 0, vp_updL s.2 (nI i).toNatClampNeg (s.1 (nI i).toNatClampNeg)) ⟨?_, ?_⟩))⟩⟩))
  · have em : ∀ t, t < 512 → av_mem s.2 t = av_mem a12 t := by
      intro t ht
      unfold av_mem
      rw [h.2 (t / 64) (by omega)]
    refine av_ap46 ch (fun t ht hm q lv a12 => hch t ht (by rw [← em t ht]; exact hm) q lv a12 s.2) (fun t ht => ?_) rfl (fun lv' b12 hb hl => H lv' b12 s.2 (fun t ht => ?_) (fun t ht hm => hl t ht (by rw [em t ht]; exact hm)))
    · unfold av_mem
      rw [h.1 (t / 64) (by omega), if_pos (by omega)]
      show (0#64).getLsbD _ = false
      simp
    · rw [hb t ht]
      constructor
      · exact fun ⟨r, hr, g1, g2⟩ => ⟨r, hr, by rw [← em r hr]; exact g1, g2⟩
      · exact fun ⟨r, hr, g1, g2⟩ => ⟨r, hr, by rw [em r hr]; exact g1, g2⟩
  · have t := av_stIL (p := 0) (N := 8) (f := fun _ => 0) (g := a12) (s := s.1) (i := i) (k := (nI i).toNatClampNeg) (x := 0) (by rw [nI_clamp (by omega)]; omega) (fun j hj => by rw [Nat.zero_add]; exact h.1 j hj) rfl
    intro j hj
    have u := t j hj
    rw [Nat.zero_add] at u
    exact u
  · refine av_fillL (nI_clamp (by omega)) h.2 ?_
    show s.1 (nI i).toNatClampNeg = a12 i
    rw [nI_clamp (by omega), h.1 i hi, if_neg (by omega)]
/-! the change of one state: ANY from the state 0, COPY -/
theorem av_or0 : ∀ v, v < 3 → ∀ x, x < 8 → ((0 : Int32) &&& (((7 : Int32) <<< (((3 : Int32) * nI v) &&& 31)) ^^^ (-1))) ||| (nI x <<< (((3 : Int32) * nI v) &&& 31)) = nI (x * 2 ^ (3 * v)) ∧ x * 2 ^ (3 * v) < 512 := by decide +kernel
def av_ch0 (v s : Nat) : List Nat := (List.range 8).map (fun x => x * 2 ^ (3 * v))
theorem av_ch0_lt {v i t : Nat} : t ∈ (List.range i).map (fun x => x * 2 ^ (3 * v)) ↔ ∃ x, x < i ∧ t = x * 2 ^ (3 * v) := by
  rw [List.mem_map]
  constructor
  · rintro ⟨x, hx, e⟩
    exact ⟨x, List.mem_range.mp hx, e.symm⟩
  · rintro ⟨x, hx, e⟩
    exact ⟨x, List.mem_range.mpr hx, e.symm⟩
theorem av_cs_any {q : St2 → Prop} {c l lv wt : Int32} {a1 a2 a3 a4 a5 a6 a8 a9 a10 a11 a14 a15 a16 a17 : Nat → Int32} {a7 a12 a13 : Nat → Int64} {v : Nat} {y3 y4 : Int32} (hv : v < 3) (H : ∀ (lv' : Int32) (b12 : Nat → Int64), (∀ t, av_mem b12 t = true ↔ av_mem a12 t = true ∨ t ∈ av_ch0 v 0) → lv' = (if av_ch0 v 0 = [] then lv else 1) → q (c, l, lv', wt, a1, a2, a3, a4, a5, a6, a7, a8, a9, a10, a11, b12, a13, a14, a15, a16, a17)) : wpX_changeState q (c, l, lv, wt, a1, a2, a3, a4, a5, a6, a7, a8, a9, a10, a11, a12, a13, a14, a15, a16, a17) (nI 0) 2 (nI v) y3 y4 := by
  refine br_f (by decide) (br_f (by decide) (br_f (by decide) (br_t rfl (nm_e ?_))))
  refine pk_loop (σ := Int32 × (Nat → Int64)) (fun n i s => wX_changeState_90 q (nI v) 7 ((0 : Int32) &&& (((7 : Int32) <<< (((3 : Int32) * nI v) &&& 31)) ^^^ (-1))) n (nI i) c l s.1 wt a1 a2 a3 a4 a5 a6 a7 a8 a9 a10 a11 s.2 a13 a14 a15 a16 a17)
    (fun i s => (∀ t, av_mem s.2 t = true ↔ av_mem a12 t = true ∨ ∃ x, x < i ∧ t = x * 2 ^ (3 * v)) ∧ (0 < i → s.1 = 1)) 8 0 (lv, a12) (by omega)
    ⟨fun t => ⟨fun z => Or.inl z, fun z => z.elim id (fun ⟨x, hx, _⟩ => absurd hx (by omega))⟩, fun z => absurd z (by omega)⟩
    (fun n s h => pk_lt 7 8 (fun _ => H s.1 s.2 (fun t => ?_) ?_) (fun z => absurd z (by omega)))
    (fun n i s hi h hw => pk_lt 7 i (fun z => absurd z (by omega)) (fun _ => pk_lt i 0 (fun z => absurd z (by omega)) (fun _ => pk_lt 7 i (fun z => absurd z (by omega)) (fun _ => ?_))))
  · rw [h.1 t]
    unfold av_ch0
    rw [av_ch0_lt]
  · rw [h.2 (by omega)]
    rfl
  · rw [(av_or0 v hv i hi).1]
    refine av_addState (av_or0 v hv i hi).2 (fun b12 hb => nm_r (nI_1 i) (hw (1, b12) ⟨fun t => ?_, fun _ => rfl⟩))
    show av_mem b12 t = true ↔ _
    rw [hb t, Bool.or_eq_true, h.1 t, decide_eq_true_iff]
    constructor
    · rintro ((g | ⟨x, hx, g⟩) | g)
      · exact Or.inl g
      · exact Or.inr ⟨x, by omega, g⟩
      · exact Or.inr ⟨i, by omega, g⟩
    · rintro (g | ⟨x, hx, g⟩)
      · exact Or.inl (Or.inl g)
      · by_cases e : x = i
        · exact Or.inr (e ▸ g)
        · exact Or.inl (Or.inr ⟨x, by omega, g⟩)
def av_w (v : Nat) : Nat := (v + 1) % 3
def av_z (v : Nat) : Nat := (v + 2) % 3
def av_ch1 (v b s : Nat) : List Nat := if 7 ≤ av_d s v + b ∧ av_d s v + b ≤ 14 then [s + (av_d s v + b - 7) * 2 ^ (3 * av_w v)] else []
def av_M1 (v t : Nat) : Bool := decide (t = av_d t v * 2 ^ (3 * v))
def av_M2 (v b t : Nat) : Bool := decide (av_d t (av_z v) = 0) && decide (av_d t (av_w v) + 7 = av_d t v + b)
theorem av_cp_or : ∀ v, v < 3 → ∀ x, x < 8 → ∀ y, y < 8 → (nI (x * 2 ^ (3 * v)) &&& (((7 : Int32) <<< (((3 : Int32) * nI (av_w v)) &&& 31)) ^^^ (-1))) ||| (nI y <<< (((3 : Int32) * nI (av_w v)) &&& 31)) = nI (x * 2 ^ (3 * v) + y * 2 ^ (3 * av_w v)) ∧ x * 2 ^ (3 * v) + y * 2 ^ (3 * av_w v) < 512 := by decide +kernel
theorem av_cp_rng : ∀ b, b < 15 → ∀ x, x < 8 → (x + b < 7 → nI x + av_by b < 0 ∧ nI x + av_by b < nI x + av_by b + 1) ∧ (14 < x + b → ¬ nI x + av_by b < 0 ∧ 7 < nI x + av_by b ∧ nI x + av_by b < nI x + av_by b + 1) ∧ (7 ≤ x + b ∧ x + b ≤ 14 → nI x + av_by b = nI (x + b - 7)) := by decide +kernel
theorem av_cs_copy {q : St2 → Prop} {c l lv wt : Int32} {a1 a2 a3 a4 a5 a6 a8 a9 a10 a11 a14 a15 a16 a17 : Nat → Int32} {a7 a12 a13 : Nat → Int64} {v b s : Nat} (hv : v < 3) (hb : b < 15) (hs : s < 512) (hm : av_M1 v s = true) (H : ∀ (lv' : Int32) (b12 : Nat → Int64), (∀ t, av_mem b12 t = true ↔ av_mem a12 t = true ∨ t ∈ av_ch1 v b s) → lv' = (if av_ch1 v b s = [] then lv else 1) → q (c, l, lv', wt, a1, a2, a3, a4, a5, a6, a7, a8, a9, a10, a11, b12, a13, a14, a15, a16, a17)) : wpX_changeState q (c, l, lv, wt, a1, a2, a3, a4, a5, a6, a7, a8, a9, a10, a11, a12, a13, a14, a15, a16, a17) (nI s) 1 (nI (av_w v)) (nI v) (av_by b) := by
  have hx : av_d s v < 8 := av_d_lt s v
  have es : s = av_d s v * 2 ^ (3 * v) := by
    unfold av_M1 at hm
    exact of_decide_eq_true hm
  refine br_f (by decide) (br_f (by decide) (br_t rfl (av_valueIn hs (by omega) (br_f (by decide) (nm_e ?_)))))
  have R := av_cp_rng b hb (av_d s v) hx
  by_cases h1 : av_d s v + b < 7
  · have ec : av_ch1 v b s = [] := by unfold av_ch1; rw [if_neg (by omega)]
    rw [ec] at H
    have R1 := R.1 h1
    exact ⟨2, br_f (fun z => Int32.lt_irrefl z) (br_t R1.1 (nm_e (br_t R1.2 (H lv a12 (fun t => ⟨fun z => Or.inl z, fun z => z.elim id (fun z => absurd z (List.not_mem_nil))⟩) rfl))))⟩
  · by_cases h2 : 14 < av_d s v + b
    · have ec : av_ch1 v b s = [] := by unfold av_ch1; rw [if_neg (by omega)]
      rw [ec] at H
      have R1 := R.2.1 h2
      exact ⟨2, br_f (fun z => Int32.lt_irrefl z) (br_f R1.1 (br_t R1.2.1 (nm_e (br_t R1.2.2 (H lv a12 (fun t => ⟨fun z => Or.inl z, fun z => z.elim id (fun z => absurd z (List.not_mem_nil))⟩) rfl)))))⟩
    · have ec : av_ch1 v b s = [s + (av_d s v + b - 7) * 2 ^ (3 * av_w v)] := by unfold av_ch1; rw [if_pos (by omega)]
      rw [ec] at H
      have hy : av_d s v + b - 7 < 8 := by omega
      rw [R.2.2 (by omega)]
      generalize av_d s v + b - 7 = y at *
      have O := av_cp_or v hv (av_d s v) hx y hy
      rw [← es] at O
      refine ⟨2, br_f (fun z => Int32.lt_irrefl z) (pk_lt y 0 (fun z => absurd z (by omega)) (fun _ => pk_lt 7 y (fun z => absurd z (by omega)) (fun _ => ?_)))⟩
      rw [O.1]
      refine av_addState O.2 (fun b12 h12 => nm_r (nI_1 y) (br_t (nI_lt (by omega) (by omega)) (H 1 b12 (fun t => ?_) ?_)))
      · rw [h12 t, Bool.or_eq_true, decide_eq_true_iff, List.mem_singleton]
      · rw [if_neg (List.cons_ne_nil _ _)]
/-! what the two steps give -/
theorem av_init0 {a : Nat → Int64} (h : ∀ j, j < 8 → a j = if j = 0 then 1 else 0) {t : Nat} (ht : t < 512) : av_mem a t = true ↔ t = 0 := by
  unfold av_mem
  rw [h (t / 64) (by omega)]
  by_cases e : t / 64 = 0
  · rw [if_pos e]
    show (1#64).getLsbD _ = true ↔ _
    rw [BitVec.getLsbD_one]
    simp
    omega
  · rw [if_neg e]
    show (0#64).getLsbD _ = true ↔ _
    simp
    omega
theorem av_fA : ∀ v, v < 3 → ∀ t, t < 512 → (av_M1 v t = true ↔ t ∈ av_ch0 v 0) := by decide +kernel
theorem av_fB1 : ∀ v, v < 3 → ∀ b, b < 15 → ∀ x, x < 8 → ∀ t, t ∈ av_ch1 v b (x * 2 ^ (3 * v)) → av_M2 v b t = true := by decide +kernel
theorem av_fB2a : ∀ v, v < 3 → ∀ b, b < 15 → ∀ t, t < 512 → (!(av_M2 v b t) || (decide (av_d t v * 2 ^ (3 * v) < 512) && av_M1 v (av_d t v * 2 ^ (3 * v)) && (av_ch1 v b (av_d t v * 2 ^ (3 * v))).contains t)) = true := by decide +kernel
theorem av_fB2 (v : Nat) (hv : v < 3) (b : Nat) (hb : b < 15) (t : Nat) (ht : t < 512) (h : av_M2 v b t = true) : av_d t v * 2 ^ (3 * v) < 512 ∧ av_M1 v (av_d t v * 2 ^ (3 * v)) = true ∧ t ∈ av_ch1 v b (av_d t v * 2 ^ (3 * v)) := by
  have g := av_fB2a v hv b hb t ht
  rw [h, Bool.not_true, Bool.false_or, Bool.and_eq_true, Bool.and_eq_true, decide_eq_true_iff, List.contains_iff_mem] at g
  exact ⟨g.1.1, g.1.2, g.2⟩
theorem av_fB3 : ∀ v, v < 3 → ∀ b, b < 15 → ∃ x, x < 8 ∧ x * 2 ^ (3 * v) < 512 ∧ av_M1 v (x * 2 ^ (3 * v)) = true ∧ av_ch1 v b (x * 2 ^ (3 * v)) ≠ [] := by decide +kernel
theorem av_ap_any {post : St2 → Prop} {c l lv wt : Int32} {a1 a2 a3 a4 a5 a6 a8 a9 a10 a11 a14 a15 a16 a17 : Nat → Int32} {a7 a12 a13 : Nat → Int64} {v : Nat} {y3 y4 : Int32} (hv : v < 3) (hm : ∀ t, t < 512 → (av_mem a12 t = true ↔ t = 0)) (H : ∀ b12 b13 : Nat → Int64, (∀ t, t < 512 → av_mem b12 t = av_M1 v t) → post (c, l, 1, wt, a1, a2, a3, a4, a5, a6, a7, a8, a9, a10, a11, b12, b13, a14, a15, a16, a17)) : wpX_applyToStates post (c, l, lv, wt, a1, a2, a3, a4, a5, a6, a7, a8, a9, a10, a11, a12, a13, a14, a15, a16, a17) 2 (nI v) y3 y4 := by
  refine av_apS (av_ch0 v) (fun s hs hms q lv a12 a13 Hq => ?_) (fun lv' b12 b13 h1 h2 => ?_)
  · have e := (hm s hs).mp hms
    subst e
    exact av_cs_any hv Hq
  · have e : lv' = 1 := h2 0 (by omega) ((hm 0 (by omega)).mpr rfl) (by intro z; exact absurd (congrArg List.length z) (by unfold av_ch0; simp))
    rw [e]
    refine H b12 b13 (fun t ht => ?_)
    rw [Bool.eq_iff_iff, h1 t ht, av_fA v hv t ht]
    constructor
    · rintro ⟨s, _, _, g⟩
      exact g
    · exact fun g => ⟨0, by omega, (hm 0 (by omega)).mpr rfl, g⟩
theorem av_ap_copy {post : St2 → Prop} {c l lv wt : Int32} {a1 a2 a3 a4 a5 a6 a8 a9 a10 a11 a14 a15 a16 a17 : Nat → Int32} {a7 a12 a13 : Nat → Int64} {v b : Nat} (hv : v < 3) (hb : b < 15) (hm : ∀ t, t < 512 → av_mem a12 t = av_M1 v t) (H : ∀ b12 b13 : Nat → Int64, (∀ t, t < 512 → av_mem b12 t = av_M2 v b t) → post (c, l, 1, wt, a1, a2, a3, a4, a5, a6, a7, a8, a9, a10, a11, b12, b13, a14, a15, a16, a17)) : wpX_applyToStates post (c, l, lv, wt, a1, a2, a3, a4, a5, a6, a7, a8, a9, a10, a11, a12, a13, a14, a15, a16, a17) 1 (nI (av_w v)) (nI v) (av_by b) := by
  refine av_apS (av_ch1 v b) (fun s hs hms q lv a12 a13 Hq => ?_) (fun lv' b12 b13 h1 h2 => ?_)
  · exact av_cs_copy hv hb hs (by rw [← hm s hs]; exact hms) Hq
  · obtain ⟨x, hx, x1, x2, x3⟩ := av_fB3 v hv b hb
    have e : lv' = 1 := h2 _ x1 (by rw [hm _ x1]; exact x2) x3
    rw [e]
    refine H b12 b13 (fun t ht => ?_)
    rw [Bool.eq_iff_iff, h1 t ht]
    constructor
    · rintro ⟨s, hs, g1, g2⟩
      rw [hm s hs] at g1
      have es : s = av_d s v * 2 ^ (3 * v) := by
        unfold av_M1 at g1
        exact of_decide_eq_true g1
      rw [es] at g2
      exact av_fB1 v hv b hb _ (av_d_lt s v) t g2
    · intro g
      obtain ⟨g1, g2, g3⟩ := av_fB2 v hv b hb t ht g
      exact ⟨_, g1, by rw [hm _ g1]; exact g2, g3⟩
end
section
/-! way 1: sets -/
def av_shf (x y : Int32) : Int32 := if y < 0 then (x >>> ((-y) &&& 31)) &&& 255 else (x <<< (y &&& 31)) &&& 255
theorem av_shifted {post : Int32 → Prop} {c l lv wt : Int32} {a1 a2 a3 a4 a5 a6 a8 a9 a10 a11 a14 a15 a16 a17 : Nat → Int32} {a7 a12 a13 : Nat → Int64} {x y : Int32} (H : post (av_shf x y)) : wpX_shifted post (c, l, lv, wt, a1, a2, a3, a4, a5, a6, a7, a8, a9, a10, a11, a12, a13, a14, a15, a16, a17) x y := by
  unfold av_shf at H
  refine br_c (fun z => ?_) (fun z => ?_)
  · rw [if_pos z] at H
    exact H
  · rw [if_neg z] at H
    exact H
theorem av_st62 {post : St2 → Prop} {c l lv wt : Int32} {a1 a2 a3 a4 a5 a6 a8 a9 a10 a11 a14 a15 a16 a17 : Nat → Int32} {a7 a12 a13 : Nat → Int64} (h : ∀ j, j < 3 → ¬ a14 j = 0) (H : post (c, l, lv, wt, a1, a2, a3, a4, a5, a6, a7, a8, a9, a10, a11, a12, a13, a14, a15, a16, a17)) : ∃ n, wX_applyToSets_62 post c l wt a1 a2 a3 a4 a5 a6 a7 a8 a9 a10 a11 a12 a13 a14 a15 a16 a17 n 0 lv :=
  pk_loop (σ := Unit) (fun n i _ => wX_applyToSets_62 post c l wt a1 a2 a3 a4 a5 a6 a7 a8 a9 a10 a11 a12 a13 a14 a15 a16 a17 n (nI i) lv) (fun _ _ => True) 3 0 () (by omega) trivial
    (fun n _ _ => pk_le 3 3 (fun _ => H) (fun z => absurd z (by omega)))
    (fun n i _ hi _ hw => pk_le 3 i (fun z => absurd z (by omega)) (fun _ => ⟨pk_in i 3 hi, br_f (by rw [nI_clamp (by omega)]; exact h i hi) (nm_r (nI_1 i) (hw () trivial))⟩))
def av_S1 (v t : Nat) : Int32 := if t = v then 255 else 1
def av_S2 (v b t : Nat) : Int32 := if t = av_w v then av_shf 255 (av_by b) else if t = v then av_shf (av_shf 255 (av_by b)) (-(av_by b)) else 1
theorem av_S2t : ∀ v, v < 3 → ∀ b, b < 15 → ∀ t, t < 3 → (av_S2 v b t).toInt16.toInt32 = av_S2 v b t ∧ ¬ av_S2 v b t = 0 := by decide +kernel
theorem av_S2w : ∀ v, v < 3 → ∀ b, b < 15 → (av_shf 255 (av_by b)).toInt16.toInt32 = av_shf 255 (av_by b) ∧ (av_shf (av_shf 255 (av_by b)) (-(av_by b))).toInt16.toInt32 = av_shf (av_shf 255 (av_by b)) (-(av_by b)) := by decide +kernel
theorem av_S1t : ∀ v, v < 3 → ∀ t, t < 3 → (av_S1 v t).toInt16.toInt32 = av_S1 v t ∧ ¬ av_S1 v t = 0 := by decide +kernel
theorem av_w_lt (v : Nat) : av_w v < 3 := Nat.mod_lt _ (by omega)
theorem av_w_ne {v : Nat} (hv : v < 3) : ¬ v = av_w v := by
  unfold av_w
  omega
theorem av_sets_any {post : St2 → Prop} {c l lv wt : Int32} {a1 a2 a3 a4 a5 a6 a8 a9 a10 a11 a14 a15 a16 a17 : Nat → Int32} {a7 a12 a13 : Nat → Int64} {v : Nat} {y3 y4 : Int32} (hv : v < 3) (h14 : ∀ j, j < 3 → a14 j = 1) (H : ∀ b14 : Nat → Int32, (∀ j, j < 3 → b14 j = av_S1 v j) → post (c, l, lv, wt, a1, a2, a3, a4, a5, a6, a7, a8, a9, a10, a11, a12, a13, b14, a15, a16, a17)) : wpX_applyToSets post (c, l, lv, wt, a1, a2, a3, a4, a5, a6, a7, a8, a9, a10, a11, a12, a13, a14, a15, a16, a17) 2 (nI v) y3 y4 := by
  have e : ∀ j, j < 3 → upd a14 (nI v).toNatClampNeg 255 j = av_S1 v j := by
    intro j hj
    rw [nI_clamp (by omega)]
    unfold av_S1
    by_cases z : j = v
    · rw [if_pos z, z, pk_us]
    · rw [if_neg z, pk_un z, h14 j hj]
  exact br_f (by decide) (br_t rfl ⟨pk_in v 3 hv, nm_e (av_st62 (fun j hj => by rw [e j hj]; exact (av_S1t v hv j hj).2) (H _ e))⟩)
theorem av_sets_copy {post : St2 → Prop} {c l lv wt : Int32} {a1 a2 a3 a4 a5 a6 a8 a9 a10 a11 a14 a15 a16 a17 : Nat → Int32} {a7 a12 a13 : Nat → Int64} {v b : Nat} (hv : v < 3) (hb : b < 15) (h14 : ∀ j, j < 3 → a14 j = av_S1 v j) (H : ∀ b14 : Nat → Int32, (∀ j, j < 3 → b14 j = av_S2 v b j) → post (c, l, lv, wt, a1, a2, a3, a4, a5, a6, a7, a8, a9, a10, a11, a12, a13, b14, a15, a16, a17)) : wpX_applyToSets post (c, l, lv, wt, a1, a2, a3, a4, a5, a6, a7, a8, a9, a10, a11, a12, a13, a14, a15, a16, a17) 1 (nI (av_w v)) (nI v) (av_by b) := by
  have hw := av_w_lt v
  have e0 : a14 (nI v).toNatClampNeg = 255 := by
    rw [nI_clamp (by omega), h14 v hv]
    unfold av_S1
    rw [if_pos rfl]
  have W := av_S2w v hv b hb
  have e : ∀ j, j < 3 → upd (upd a14 (nI v).toNatClampNeg (av_shf (av_shf 255 (av_by b)) (-(av_by b)))) (nI (av_w v)).toNatClampNeg (av_shf 255 (av_by b)) j = av_S2 v b j := by
    intro j hj
    rw [nI_clamp (show v < 2 ^ 31 by omega), nI_clamp (show av_w v < 2 ^ 31 by omega)]
    unfold av_S2
    by_cases z : j = av_w v
    · rw [if_pos z, z, pk_us]
    · rw [if_neg z, pk_un z]
      by_cases z2 : j = v
      · rw [if_pos z2, z2, pk_us]
      · rw [if_neg z2, pk_un z2, h14 j hj]
        unfold av_S1
        rw [if_neg z2]
  refine br_f (by decide) (br_f (by decide) (br_t rfl (pk_eq v 3 (fun z => absurd z (by omega)) (fun _ => ⟨pk_in v 3 hv, ?_⟩))))
  rw [e0]
  unfold wX_copySets_15
  refine av_shifted (pk_le 3 v (fun z => absurd z (by omega)) (fun _ => pk_eq v (av_w v) (fun z => absurd z (av_w_ne hv)) (fun _ => av_shifted ?_)))
  rw [W.1, W.2]
  exact ⟨pk_in v 3 hv, nm_e ⟨pk_in (av_w v) 3 hw, nm_e (av_st62 (fun j hj => by rw [e j hj]; exact (av_S2t v hv b hb j hj).2) (H _ e))⟩⟩
/-! way 2: ranges -/
theorem av_st59 {post : St2 → Prop} {c l lv wt : Int32} {a1 a2 a3 a4 a5 a6 a8 a9 a10 a11 a14 a15 a16 a17 : Nat → Int32} {a7 a12 a13 : Nat → Int64} (h : ∀ j, j < 3 → a15 j ≤ a16 j) (H : post (c, l, lv, wt, a1, a2, a3, a4, a5, a6, a7, a8, a9, a10, a11, a12, a13, a14, a15, a16, a17)) : ∃ n, wX_applyToRanges_59 post c l wt a1 a2 a3 a4 a5 a6 a7 a8 a9 a10 a11 a12 a13 a14 a15 a16 a17 n 0 lv :=
  pk_loop (σ := Unit) (fun n i _ => wX_applyToRanges_59 post c l wt a1 a2 a3 a4 a5 a6 a7 a8 a9 a10 a11 a12 a13 a14 a15 a16 a17 n (nI i) lv) (fun _ _ => True) 3 0 () (by omega) trivial
    (fun n _ _ => pk_le 3 3 (fun _ => H) (fun z => absurd z (by omega)))
    (fun n i _ hi _ hw => pk_le 3 i (fun z => absurd z (by omega)) (fun _ => ⟨pk_in i 3 hi, pk_in i 3 hi, br_t (by rw [nI_clamp (by omega)]; exact h i hi) (nm_r (nI_1 i) (hw () trivial))⟩))
theorem av_setRange {post : St2 → Prop} {c l lv wt : Int32} {a1 a2 a3 a4 a5 a6 a8 a9 a10 a11 a14 a15 a16 a17 : Nat → Int32} {a7 a12 a13 : Nat → Int64} {v : Nat} {x y : Int32} (hv : v < 3) (H : post (c, l, lv, wt, a1, a2, a3, a4, a5, a6, a7, a8, a9, a10, a11, a12, a13, a14, upd a15 v x.toInt8.toInt32, upd a16 v y.toInt8.toInt32, a17)) : wpX_setRange post (c, l, lv, wt, a1, a2, a3, a4, a5, a6, a7, a8, a9, a10, a11, a12, a13, a14, a15, a16, a17) (nI v) x y := by
  unfold wpX_setRange
  exact And.intro (pk_in v 3 hv) (nm_r (by rw [nI_clamp (by omega)]) (And.intro (pk_in v 3 hv) (nm_r (by rw [nI_clamp (by omega)]) H)))
def av_lo2 (b : Nat) : Int32 := if 0 ≤ 0 + av_by b then 0 + av_by b else 0
def av_hi2 (b : Nat) : Int32 := if 7 + av_by b ≤ 7 then 7 + av_by b else 7
def av_L2 (v b t : Nat) : Int32 := if t = av_w v then av_lo2 b else if t = v then av_lo2 b - av_by b else 0
def av_H2 (v b t : Nat) : Int32 := if t = av_w v then av_hi2 b else if t = v then av_hi2 b - av_by b else 0
def av_H1 (v t : Nat) : Int32 := if t = v then 7 else 0
theorem av_R2w : ∀ b, b < 15 → (av_lo2 b).toInt8.toInt32 = av_lo2 b ∧ (av_hi2 b).toInt8.toInt32 = av_hi2 b ∧ (av_lo2 b - av_by b).toInt8.toInt32 = av_lo2 b - av_by b ∧ (av_hi2 b - av_by b).toInt8.toInt32 = av_hi2 b - av_by b := by decide +kernel
theorem av_R2t : ∀ v, v < 3 → ∀ b, b < 15 → ∀ t, t < 3 → av_L2 v b t ≤ av_H2 v b t ∧ (av_L2 v b t).toInt8.toInt32 = av_L2 v b t ∧ av_L2 v b t ≤ 7 ∧ (av_H2 v b t).toInt8.toInt32 = av_H2 v b t ∧ 0 ≤ av_H2 v b t := by decide +kernel
theorem av_R1t : ∀ v, v < 3 → ∀ t, t < 3 → 0 ≤ av_H1 v t ∧ (av_H1 v t).toInt8.toInt32 = av_H1 v t := by decide +kernel
theorem av_rng_any {post : St2 → Prop} {c l lv wt : Int32} {a1 a2 a3 a4 a5 a6 a8 a9 a10 a11 a14 a15 a16 a17 : Nat → Int32} {a7 a12 a13 : Nat → Int64} {v : Nat} {y3 y4 : Int32} (hv : v < 3) (h15 : ∀ j, j < 3 → a15 j = 0) (h16 : ∀ j, j < 3 → a16 j = 0) (H : ∀ b15 b16 : Nat → Int32, (∀ j, j < 3 → b15 j = 0) → (∀ j, j < 3 → b16 j = av_H1 v j) → post (c, l, lv, wt, a1, a2, a3, a4, a5, a6, a7, a8, a9, a10, a11, a12, a13, a14, b15, b16, a17)) : wpX_applyToRanges post (c, l, lv, wt, a1, a2, a3, a4, a5, a6, a7, a8, a9, a10, a11, a12, a13, a14, a15, a16, a17) 2 (nI v) y3 y4 := by
  have e1 : ∀ j, j < 3 → upd a15 v ((0 : Int32).toInt8.toInt32) j = 0 := av_keep h15 rfl
  have e2 : ∀ j, j < 3 → upd a16 v ((7 : Int32).toInt8.toInt32) j = av_H1 v j := by
    intro j hj
    unfold av_H1
    by_cases z : j = v
    · rw [if_pos z, z, pk_us]
      rfl
    · rw [if_neg z, pk_un z, h16 j hj]
  refine br_f (by decide) (br_t rfl (av_setRange hv ?_))
  exact av_st59 (fun j hj => by rw [e1 j hj, e2 j hj]; exact (av_R1t v hv j hj).1) (H _ _ e1 e2)
theorem av_rng_copy {post : St2 → Prop} {c l lv wt : Int32} {a1 a2 a3 a4 a5 a6 a8 a9 a10 a11 a14 a15 a16 a17 : Nat → Int32} {a7 a12 a13 : Nat → Int64} {v b : Nat} (hv : v < 3) (hb : b < 15) (h15 : ∀ j, j < 3 → a15 j = 0) (h16 : ∀ j, j < 3 → a16 j = av_H1 v j) (H : ∀ b15 b16 : Nat → Int32, (∀ j, j < 3 → b15 j = av_L2 v b j) → (∀ j, j < 3 → b16 j = av_H2 v b j) → post (c, l, lv, wt, a1, a2, a3, a4, a5, a6, a7, a8, a9, a10, a11, a12, a13, a14, b15, b16, a17)) : wpX_applyToRanges post (c, l, lv, wt, a1, a2, a3, a4, a5, a6, a7, a8, a9, a10, a11, a12, a13, a14, a15, a16, a17) 1 (nI (av_w v)) (nI v) (av_by b) := by
  have hw := av_w_lt v
  have W := av_R2w b hb
  have e15 : a15 (nI v).toNatClampNeg = 0 := by rw [nI_clamp (by omega), h15 v hv]
  have e16 : a16 (nI v).toNatClampNeg = 7 := by
    rw [nI_clamp (by omega), h16 v hv]
    unfold av_H1
    rw [if_pos rfl]
  have e1 : ∀ j, j < 3 → upd (upd a15 v (av_lo2 b - av_by b)) (av_w v) (av_lo2 b) j = av_L2 v b j := by
    intro j hj
    unfold av_L2
    by_cases z : j = av_w v
    · rw [if_pos z, z, pk_us]
    · rw [if_neg z, pk_un z]
      by_cases z2 : j = v
      · rw [if_pos z2, z2, pk_us]
      · rw [if_neg z2, pk_un z2, h15 j hj]
  have e2 : ∀ j, j < 3 → upd (upd a16 v (av_hi2 b - av_by b)) (av_w v) (av_hi2 b) j = av_H2 v b j := by
    intro j hj
    unfold av_H2
    by_cases z : j = av_w v
    · rw [if_pos z, z, pk_us]
    · rw [if_neg z, pk_un z]
      by_cases z2 : j = v
      · rw [if_pos z2, z2, pk_us]
      · rw [if_neg z2, pk_un z2, h16 j hj]
        unfold av_H1
        rw [if_neg z2]
  refine br_f (by decide) (br_f (by decide) (br_t rfl (pk_eq v 3 (fun z => absurd z (by omega)) (fun _ => ⟨pk_in v 3 hv, nm_e (pk_eq v 3 (fun z => absurd z (by omega)) (fun _ => ⟨pk_in v 3 hv, nm_e ?_⟩))⟩))))
  rw [e15, e16]
  have K : ∀ q : St2 → Prop, q (c, l, lv, wt, a1, a2, a3, a4, a5, a6, a7, a8, a9, a10, a11, a12, a13, a14, upd (upd a15 v (av_lo2 b - av_by b)) (av_w v) (av_lo2 b), upd (upd a16 v (av_hi2 b - av_by b)) (av_w v) (av_hi2 b), a17) → wX_copyRanges_57 q (nI (av_w v)) (nI v) (av_by b) (av_lo2 b) (av_hi2 b) c l lv wt a1 a2 a3 a4 a5 a6 a7 a8 a9 a10 a11 a12 a13 a14 a15 a16 a17 := by
    intro q hq
    refine pk_le 3 v (fun z => absurd z (by omega)) (fun _ => pk_eq v (av_w v) (fun z => absurd z (av_w_ne hv)) (fun _ => av_setRange hv ?_))
    refine av_setRange hw ?_
    rw [W.1, W.2.1, W.2.2.1, W.2.2.2]
    exact hq
  have K2 : ∀ q : St2 → Prop, wX_copyRanges_57 q (nI (av_w v)) (nI v) (av_by b) (av_lo2 b) (av_hi2 b) c l lv wt a1 a2 a3 a4 a5 a6 a7 a8 a9 a10 a11 a12 a13 a14 a15 a16 a17 → wX_copyRanges_46 q (nI (av_w v)) (nI v) (av_by b) (av_lo2 b) (7 + av_by b) c l lv wt a1 a2 a3 a4 a5 a6 a7 a8 a9 a10 a11 a12 a13 a14 a15 a16 a17 := by
    intro q hq
    unfold av_hi2 at hq
    refine br_c (fun z => ?_) (fun z => ?_)
    · rw [if_pos z] at hq
      exact hq
    · rw [if_neg z] at hq
      exact hq
  have K3 : ∀ q : St2 → Prop, wX_copyRanges_46 q (nI (av_w v)) (nI v) (av_by b) (av_lo2 b) (7 + av_by b) c l lv wt a1 a2 a3 a4 a5 a6 a7 a8 a9 a10 a11 a12 a13 a14 a15 a16 a17 → ((0 ≤ 0 + av_by b → wX_copyRanges_46 q (nI (av_w v)) (nI v) (av_by b) (0 + av_by b) (7 + av_by b) c l lv wt a1 a2 a3 a4 a5 a6 a7 a8 a9 a10 a11 a12 a13 a14 a15 a16 a17) ∧ (¬ 0 ≤ 0 + av_by b → wX_copyRanges_46 q (nI (av_w v)) (nI v) (av_by b) 0 (7 + av_by b) c l lv wt a1 a2 a3 a4 a5 a6 a7 a8 a9 a10 a11 a12 a13 a14 a15 a16 a17)) := by
    intro q hq
    unfold av_lo2 at hq
    refine br_c (fun z => ?_) (fun z => ?_)
    · rw [if_pos z] at hq
      exact hq
    · rw [if_neg z] at hq
      exact hq
  refine K3 _ (K2 _ (K _ ?_))
  exact av_st59 (fun j hj => by rw [e1 j hj, e2 j hj]; exact (av_R2t v hv b hb j hj).1) (H _ _ e1 e2)
/-! way 3: bounds, by tables -/
def av_mt (A : Nat → Int32) (T : List Int32) : Prop := T.length = 16 ∧ ∀ j, j < 16 → A j = T.getD j 0
theorem av_mt_set {A : Nat → Int32} {T : List Int32} {k n : Nat} {x : Int32} (h : av_mt A T) (hk : k = n) (hn : n < 16) : av_mt (upd A k x) (T.set n x) := by
  refine ⟨by rw [List.length_set]; exact h.1, fun j hj => ?_⟩
  rw [hk, List.getD_eq_getElem?_getD, List.getElem?_set]
  by_cases e : n = j
  · subst e
    rw [pk_us, if_pos rfl, if_pos (by rw [h.1]; exact hn)]
    rfl
  · rw [if_neg e, pk_un (fun z => e z.symm), h.2 j hj, List.getD_eq_getElem?_getD]
def av_stp (T : List Int32) (a b : Nat) (x : Int32) (i k : Nat) : List Int32 := if T.getD (4 * i + k) 0 ≤ T.getD (4 * i + a) 0 + x + T.getD (4 * b + k) 0 then T else T.set (4 * i + k) (T.getD (4 * i + a) 0 + x + T.getD (4 * b + k) 0).toInt8.toInt32
def av_row (T : List Int32) (a b : Nat) (x : Int32) (i : Nat) : Nat → List Int32
  | 0 => T
  | k + 1 => av_stp (av_row T a b x i k) a b x i k
def av_lmN (T : List Int32) (a b : Nat) (x : Int32) : Nat → List Int32
  | 0 => T
  | i + 1 => av_row (av_lmN T a b x i) a b x i 4
def av_lim (T : List Int32) (a b : Nat) (x : Int32) : List Int32 := if x < T.getD (4 * a + b) 0 then av_lmN (T.set (4 * a + b) x.toInt8.toInt32) a b x 4 else T
def av_pl (T : List Int32) (a b : Nat) (x : Int32) : Nat → List Int32
  | 0 => T
  | k + 1 => if k = a then av_pl T a b x k else
      ((av_pl T a b x k).set (4 * a + k) (x + (av_pl T a b x k).getD (4 * b + k) 0).toInt8.toInt32).set (4 * k + a) ((((av_pl T a b x k).set (4 * a + k) (x + (av_pl T a b x k).getD (4 * b + k) 0).toInt8.toInt32).getD (4 * k + b) 0) - x).toInt8.toInt32
def av_an (T : List Int32) (a : Nat) : Nat → List Int32
  | 0 => T
  | k + 1 => if k = a then av_an T a k else
      ((av_an T a k).set (4 * a + k) (7 + (av_an T a k).getD (12 + k) 0).toInt8.toInt32).set (4 * k + a) (((av_an T a k).set (4 * a + k) (7 + (av_an T a k).getD (12 + k) 0).toInt8.toInt32).getD (4 * k + 3) 0).toInt8.toInt32
theorem av_lim60 {post : St2 → Prop} {J : Int32 → (Nat → Int32) → (Nat → Int32) → (Nat → Int32) → (Nat → Int32) → (Nat → Int32) → (Nat → Int32) → (Nat → Int64) → (Nat → Int32) → (Nat → Int32) → (Nat → Int32) → (Nat → Int32) → (Nat → Int64) → (Nat → Int64) → (Nat → Int32) → (Nat → Int32) → (Nat → Int32) → (Nat → Int32) → Prop} {c l lv wt : Int32} {a1 a2 a3 a4 a5 a6 a8 a9 a10 a11 a14 a15 a16 a17 : Nat → Int32} {a7 a12 a13 : Nat → Int64} {a b i : Nat} {x : Int32} {T : List Int32} (ha : a < 4) (hb : b < 4) (hi : i < 4) (h : av_mt a17 T) (H : ∀ b17 : Nat → Int32, av_mt b17 (av_row T a b x i 4) → J (nI (i + 1)) a1 a2 a3 a4 a5 a6 a7 a8 a9 a10 a11 a12 a13 a14 a15 a16 b17) : ∃ n, wX_limit_60 post J (nI a) (nI b) x (nI i) c l lv wt n 0 a1 a2 a3 a4 a5 a6 a7 a8 a9 a10 a11 a12 a13 a14 a15 a16 a17 := by
  refine pk_loop (fun n k s => wX_limit_60 post J (nI a) (nI b) x (nI i) c l lv wt n (nI k) a1 a2 a3 a4 a5 a6 a7 a8 a9 a10 a11 a12 a13 a14 a15 a16 s) (fun k s => av_mt s (av_row T a b x i k)) 4 0 a17 (by omega) h
    (fun n s h => pk_le 4 4 (fun _ => nm_r (nI_1 i) (H s h)) (fun z => absurd z (by omega)))
    (fun n k s hk h hw => pk_le 4 k (fun z => absurd z (by omega)) (fun _ => ⟨pk_in (4 * i + a) 16 (by omega) (av_i4 i a), pk_in (4 * b + k) 16 (by omega) (av_i4 b k), nm_e ⟨pk_in (4 * i + k) 16 (by omega) (av_i4 i k), ?_⟩⟩))
  have e1 : s (4 * nI i + nI a).toNatClampNeg = (av_row T a b x i k).getD (4 * i + a) 0 := by rw [av_clN (4 * i + a) (by omega) (av_i4 i a)]; exact h.2 _ (by omega)
  have e2 : s (4 * nI b + nI k).toNatClampNeg = (av_row T a b x i k).getD (4 * b + k) 0 := by rw [av_clN (4 * b + k) (by omega) (av_i4 b k)]; exact h.2 _ (by omega)
  have e3 : s (4 * nI i + nI k).toNatClampNeg = (av_row T a b x i k).getD (4 * i + k) 0 := by rw [av_clN (4 * i + k) (by omega) (av_i4 i k)]; exact h.2 _ (by omega)
  rw [e1, e2, e3]
  have ew : av_row T a b x i (k + 1) = av_stp (av_row T a b x i k) a b x i k := rfl
  refine br_c (fun z => nm_r (nI_1 k) (hw s ?_)) (fun z => ⟨pk_in (4 * i + k) 16 (by omega) (av_i4 i k), nm_e (nm_r (nI_1 k) (hw _ ?_))⟩)
  · show av_mt s _
    rw [ew]
    unfold av_stp
    rw [if_pos z]
    exact h
  · show av_mt _ _
    rw [ew]
    unfold av_stp
    rw [if_neg z]
    exact av_mt_set h (av_clN (4 * i + k) (by omega) (av_i4 i k)) (by omega)
theorem av_lim51 {post : St2 → Prop} {c l lv wt : Int32} {a1 a2 a3 a4 a5 a6 a8 a9 a10 a11 a14 a15 a16 a17 : Nat → Int32} {a7 a12 a13 : Nat → Int64} {a b : Nat} {x : Int32} {T : List Int32} (ha : a < 4) (hb : b < 4) (h : av_mt a17 T) (H : ∀ b17 : Nat → Int32, av_mt b17 (av_lmN T a b x 4) → post (c, l, lv, wt, a1, a2, a3, a4, a5, a6, a7, a8, a9, a10, a11, a12, a13, a14, a15, a16, b17)) : ∃ n, wX_limit_51 post (nI a) (nI b) x c l lv wt n 0 a1 a2 a3 a4 a5 a6 a7 a8 a9 a10 a11 a12 a13 a14 a15 a16 a17 :=
  pk_loop (fun n i s => wX_limit_51 post (nI a) (nI b) x c l lv wt n (nI i) a1 a2 a3 a4 a5 a6 a7 a8 a9 a10 a11 a12 a13 a14 a15 a16 s) (fun i s => av_mt s (av_lmN T a b x i)) 4 0 a17 (by omega) h
    (fun n s h => pk_le 4 4 (fun _ => H s h) (fun z => absurd z (by omega)))
    (fun n i s hi h hw => pk_le 4 i (fun z => absurd z (by omega)) (fun _ => av_lim60 ha hb hi h (fun b17 h17 => hw b17 h17)))
theorem av_limit {post : St2 → Prop} {c l lv wt : Int32} {a1 a2 a3 a4 a5 a6 a8 a9 a10 a11 a14 a15 a16 a17 : Nat → Int32} {a7 a12 a13 : Nat → Int64} {a b : Nat} {x : Int32} {T : List Int32} (ha : a < 4) (hb : b < 4) (h : av_mt a17 T) (hc : x < T.getD (4 * a + b) 0 → 0 ≤ x + T.getD (4 * b + a) 0) (H : ∀ b17 : Nat → Int32, av_mt b17 (av_lim T a b x) → post (c, l, lv, wt, a1, a2, a3, a4, a5, a6, a7, a8, a9, a10, a11, a12, a13, a14, a15, a16, b17)) : wpX_limit post (c, l, lv, wt, a1, a2, a3, a4, a5, a6, a7, a8, a9, a10, a11, a12, a13, a14, a15, a16, a17) (nI a) (nI b) x := by
  unfold wpX_limit
  have e1 : a17 (4 * nI a + nI b).toNatClampNeg = T.getD (4 * a + b) 0 := by rw [av_clN (4 * a + b) (by omega) (av_i4 a b)]; exact h.2 _ (by omega)
  have e2 : a17 (4 * nI b + nI a).toNatClampNeg = T.getD (4 * b + a) 0 := by rw [av_clN (4 * b + a) (by omega) (av_i4 b a)]; exact h.2 _ (by omega)
  refine And.intro (pk_in (4 * a + b) 16 (by omega) (av_i4 a b)) ?_
  rw [e1, e2]
  refine br_c (fun z => And.intro (pk_in (4 * b + a) 16 (by omega) (av_i4 b a)) (br_t (hc z) (And.intro (pk_in (4 * a + b) 16 (by omega) (av_i4 a b)) (nm_e ?_)))) (fun z => ?_)
  · refine av_lim51 ha hb (av_mt_set h (av_clN (4 * a + b) (by omega) (av_i4 a b)) (by omega)) (fun b17 h17 => H b17 ?_)
    unfold av_lim
    rw [if_pos z]
    exact h17
  · refine H a17 ?_
    unfold av_lim
    rw [if_neg z]
    exact h
theorem av_place {post : St2 → Prop} {c l lv wt : Int32} {a1 a2 a3 a4 a5 a6 a8 a9 a10 a11 a14 a15 a16 a17 : Nat → Int32} {a7 a12 a13 : Nat → Int64} {a b : Nat} {x : Int32} {T : List Int32} (ha : a < 4) (hb : b < 4) (h : av_mt a17 T) (H : ∀ b17 : Nat → Int32, av_mt b17 (av_pl T a b x 4) → post (c, l, lv, wt, a1, a2, a3, a4, a5, a6, a7, a8, a9, a10, a11, a12, a13, a14, a15, a16, b17)) : wpX_place post (c, l, lv, wt, a1, a2, a3, a4, a5, a6, a7, a8, a9, a10, a11, a12, a13, a14, a15, a16, a17) (nI a) (nI b) x := by
  refine pk_loop (fun n k s => wX_place_3 post (nI a) (nI b) x c l lv wt n (nI k) a1 a2 a3 a4 a5 a6 a7 a8 a9 a10 a11 a12 a13 a14 a15 a16 s) (fun k s => av_mt s (av_pl T a b x k)) 4 0 a17 (by omega) h
    (fun n s h => pk_le 4 4 (fun _ => H s h) (fun z => absurd z (by omega)))
    (fun n k s hk h hw => pk_le 4 k (fun z => absurd z (by omega)) (fun _ => pk_eq k a (fun z => nm_r (nI_1 k) (hw s ?_)) (fun z => ⟨pk_in (4 * b + k) 16 (by omega) (av_i4 b k), pk_in (4 * a + k) 16 (by omega) (av_i4 a k), ?_⟩)))
  · show av_mt s (av_pl T a b x (k + 1))
    have ew : av_pl T a b x (k + 1) = av_pl T a b x k := if_pos z
    rw [ew]
    exact h
  · have e1 : s (4 * nI b + nI k).toNatClampNeg = (av_pl T a b x k).getD (4 * b + k) 0 := by rw [av_clN (4 * b + k) (by omega) (av_i4 b k)]; exact h.2 _ (by omega)
    rw [e1]
    have m1 := av_mt_set (x := (x + (av_pl T a b x k).getD (4 * b + k) 0).toInt8.toInt32) h (av_clN (4 * a + k) (by omega) (av_i4 a k)) (by omega)
    refine nm_e ⟨pk_in (4 * k + b) 16 (by omega) (av_i4 k b), pk_in (4 * k + a) 16 (by omega) (av_i4 k a), ?_⟩
    have e2 := m1.2 (4 * k + b) (by omega)
    rw [← av_clN (4 * k + b) (by omega) (av_i4 k b)] at e2
    rw [e2, av_clN (4 * k + b) (by omega) (av_i4 k b)]
    refine nm_e (nm_r (nI_1 k) (hw _ ?_))
    show av_mt _ (av_pl T a b x (k + 1))
    have ew : av_pl T a b x (k + 1) = _ := if_neg z
    rw [ew]
    exact av_mt_set m1 (av_clN (4 * k + a) (by omega) (av_i4 k a)) (by omega)
theorem av_i12 (k : Nat) : (12 : Int32) + nI k = nI (12 + k) := by
  show nI 12 + nI k = _
  rw [nI_add]
theorem av_i43 (k : Nat) : (4 : Int32) * nI k + 3 = nI (4 * k + 3) := av_i4 k 3
theorem av_any3 {post : St2 → Prop} {c l lv wt : Int32} {a1 a2 a3 a4 a5 a6 a8 a9 a10 a11 a14 a15 a16 a17 : Nat → Int32} {a7 a12 a13 : Nat → Int64} {a : Nat} {T : List Int32} {y3 y4 : Int32} (ha : a < 3) (h : av_mt a17 T) (H : ∀ b17 : Nat → Int32, av_mt b17 (av_an T a 4) → post (c, l, lv, wt, a1, a2, a3, a4, a5, a6, a7, a8, a9, a10, a11, a12, a13, a14, a15, a16, b17)) : wpX_applyToBounds post (c, l, lv, wt, a1, a2, a3, a4, a5, a6, a7, a8, a9, a10, a11, a12, a13, a14, a15, a16, a17) 2 (nI a) y3 y4 := by
  refine br_f (by decide) (br_t rfl ?_)
  refine pk_loop (fun n k s => wX_applyToBounds_21 post (nI a) c l lv wt n (nI k) a1 a2 a3 a4 a5 a6 a7 a8 a9 a10 a11 a12 a13 a14 a15 a16 s) (fun k s => av_mt s (av_an T a k)) 4 0 a17 (by omega) h
    (fun n s h => pk_le 4 4 (fun _ => H s h) (fun z => absurd z (by omega)))
    (fun n k s hk h hw => pk_le 4 k (fun z => absurd z (by omega)) (fun _ => pk_eq k a (fun z => nm_r (nI_1 k) (hw s ?_)) (fun z => ⟨pk_in (12 + k) 16 (by omega) (av_i12 k), pk_in (4 * a + k) 16 (by omega) (av_i4 a k), ?_⟩)))
  · show av_mt s (av_an T a (k + 1))
    have ew : av_an T a (k + 1) = av_an T a k := if_pos z
    rw [ew]
    exact h
  · have e1 : s (12 + nI k).toNatClampNeg = (av_an T a k).getD (12 + k) 0 := by rw [av_clN (12 + k) (by omega) (av_i12 k)]; exact h.2 _ (by omega)
    rw [e1]
    have m1 := av_mt_set (x := (7 + (av_an T a k).getD (12 + k) 0).toInt8.toInt32) h (av_clN (4 * a + k) (by omega) (av_i4 a k)) (by omega)
    refine nm_e ⟨pk_in (4 * k + 3) 16 (by omega) (av_i43 k), pk_in (4 * k + a) 16 (by omega) (av_i4 k a), ?_⟩
    have e2 := m1.2 (4 * k + 3) (by omega)
    rw [← av_clN (4 * k + 3) (by omega) (av_i43 k)] at e2
    rw [e2, av_clN (4 * k + 3) (by omega) (av_i43 k)]
    refine nm_e (nm_r (nI_1 k) (hw _ ?_))
    show av_mt _ (av_an T a (k + 1))
    have ew : av_an T a (k + 1) = _ := if_neg z
    rw [ew]
    exact av_mt_set m1 (av_clN (4 * k + a) (by omega) (av_i4 k a)) (by omega)
/-! the tables of the law -/
def av_T0 : List Int32 := List.replicate 16 0
def av_T1 (v : Nat) : List Int32 := av_an av_T0 v 4
def av_Ta (v b : Nat) : List Int32 := av_lim (av_T1 v) v 3 (7 - av_by b)
def av_Tb (v b : Nat) : List Int32 := av_lim (av_Ta v b) 3 v (av_by b)
def av_T2 (v b : Nat) : List Int32 := av_pl (av_Tb v b) (av_w v) v (av_by b) 4
theorem av_t1 : ∀ v, v < 3 → ∀ j, j < 16 → ((av_T1 v).getD j 0).toInt8.toInt32 = (av_T1 v).getD j 0 ∧ -20 < (av_T1 v).getD j 0 := by decide +kernel
theorem av_ta : ∀ v, v < 3 → ∀ b, b < 15 → ((7 : Int32) - av_by b < (av_T1 v).getD (4 * v + 3) 0 → 0 ≤ (7 : Int32) - av_by b + (av_T1 v).getD (4 * 3 + v) 0) := by decide +kernel
theorem av_tb : ∀ v, v < 3 → ∀ b, b < 15 → (av_by b < (av_Ta v b).getD (4 * 3 + v) 0 → 0 ≤ av_by b + (av_Ta v b).getD (4 * v + 3) 0) := by decide +kernel
theorem av_t2 : ∀ v, v < 3 → ∀ b, b < 15 → ∀ j, j < 16 → ((av_T2 v b).getD j 0).toInt8.toInt32 = (av_T2 v b).getD j 0 ∧ -20 < (av_T2 v b).getD j 0 := by decide +kernel
theorem av_copy3 {post : St2 → Prop} {c l lv wt : Int32} {a1 a2 a3 a4 a5 a6 a8 a9 a10 a11 a14 a15 a16 a17 : Nat → Int32} {a7 a12 a13 : Nat → Int64} {v b : Nat} (hv : v < 3) (hb : b < 15) (hl : lv = 1) (h : av_mt a17 (av_T1 v)) (H : ∀ b17 : Nat → Int32, av_mt b17 (av_T2 v b) → post (c, l, lv, wt, a1, a2, a3, a4, a5, a6, a7, a8, a9, a10, a11, a12, a13, a14, a15, a16, b17)) : wpX_applyToBounds post (c, l, lv, wt, a1, a2, a3, a4, a5, a6, a7, a8, a9, a10, a11, a12, a13, a14, a15, a16, a17) 1 (nI (av_w v)) (nI v) (av_by b) := by
  have hw := av_w_lt v
  have l1 : ¬ lv = 0 := by rw [hl]; decide
  refine br_f (by decide) (br_f (by decide) (br_f (by decide) (pk_eq v 3 (fun z => absurd z (by omega)) (fun _ => ?_))))
  refine av_limit (a := v) (b := 3) (by omega) (by omega) h (av_ta v hv b hb) (fun b17 h17 => br_f l1 ?_)
  refine av_limit (a := 3) (b := v) (by omega) (by omega) h17 (av_tb v hv b hb) (fun c17 h17' => br_f l1 (pk_eq (av_w v) v (fun z => absurd z.symm (av_w_ne hv)) (fun _ => ?_)))
  exact av_place (by omega) (by omega) h17' H
end
section
/-! visit -/
theorem av_visit {post : St2 → Prop} {c l lv wt : Int32} {a1 a2 a3 a4 a5 a6 a8 a9 a10 a11 a14 a15 a16 a17 : Nat → Int32} {a7 a12 a13 : Nat → Int64} {p : Nat} {x o y2 y3 y4 : Int32} (hp : p < 20) (h1 : a1 p = o) (ho : ¬ o = 6 ∧ ¬ o = 4 ∧ ¬ o = 5) (h2 : a2 p = y2) (h3 : a3 p = y3) (h4 : a4 p = y4)
    (H : ∀ (b12 : Nat → Int64) (b14 b15 b16 b17 : Nat → Int32), (∀ j, j < 8 → b12 j = a7 (8 * p + j)) → (∀ j, j < 3 → b14 j = vp_nar .short (a8 (3 * p + j))) → (∀ j, j < 3 → b15 j = vp_nar .byte (a9 (3 * p + j))) → (∀ j, j < 3 → b16 j = vp_nar .byte (a10 (3 * p + j))) → (∀ j, j < 16 → b17 j = vp_nar .byte (a11 (16 * p + j))) →
      wpX_apply (fun u => match u with | (c, l, lv, wt, a1, a2, a3, a4, a5, a6, a7, a8, a9, a10, a11, a12, a13, a14, a15, a16, a17) => wX_visit_66 post x (nI p) o c l lv wt a1 a2 a3 a4 a5 a6 a7 a8 a9 a10 a11 a12 a13 a14 a15 a16 a17) (c, l, 1, wt, a1, a2, a3, a4, a5, a6, a7, a8, a9, a10, a11, b12, a13, b14, b15, b16, b17) x o y2 y3 y4) : wpX_visit post (c, l, lv, wt, a1, a2, a3, a4, a5, a6, a7, a8, a9, a10, a11, a12, a13, a14, a15, a16, a17) x (nI p) := by
  unfold wpX_visit
  refine av_load (by omega) (fun b12 b14 b15 b16 b17 h12 h14 h15 h16 h17 => And.intro (pk_in p 20 hp) (nm_r (e' := o) (by rw [nI_clamp (by omega)]; exact h1) (br_f ho.1 (br_f ho.2.1 (br_f ho.2.2 (And.intro (pk_in p 20 hp) (And.intro (pk_in p 20 hp) (And.intro (pk_in p 20 hp) ?_))))))))
  rw [nI_clamp (show p < 2 ^ 31 by omega), h2, h3, h4]
  exact H b12 b14 b15 b16 b17 h12 h14 h15 h16 h17
def av_prog (v b : Nat) (a1 a2 a3 a4 : Nat → Int32) : Prop := a1 0 = 2 ∧ a1 1 = 1 ∧ a2 0 = nI v ∧ a2 1 = nI (av_w v) ∧ a3 1 = nI v ∧ a4 1 = av_by b
theorem av_memx {a b : Nat → Int64} (h : ∀ j, j < 8 → a j = b j) {t : Nat} (ht : t < 512) : av_mem a t = av_mem b t := by
  unfold av_mem
  rw [h (t / 64) (by omega)]
/-! way 0 -/
theorem av_v0_any {post : St2 → Prop} {c l lv wt : Int32} {a1 a2 a3 a4 a5 a6 a8 a9 a10 a11 a14 a15 a16 a17 : Nat → Int32} {a7 a12 a13 : Nat → Int64} {v b : Nat} (hv : v < 3) (P : av_prog v b a1 a2 a3 a4) (hf : a6 1 = 0) (h7 : ∀ j, j < 8 → a7 (8 * 0 + j) = if j = 0 then 1 else 0)
    (H : ∀ (b7 b12 b13 : Nat → Int64) (b14 b15 b16 b17 : Nat → Int32), (∀ t, t < 512 → av_mem (fun j => b7 (8 * 1 + j)) t = av_M1 v t) → post (c, l, 1, wt ||| ((1 : Int32) <<< (nI 1 &&& 31)), a1, a2, a3, a4, a5, upd a6 1 1, b7, a8, a9, a10, a11, b12, b13, b14, b15, b16, b17)) : wpX_visit post (c, l, lv, wt, a1, a2, a3, a4, a5, a6, a7, a8, a9, a10, a11, a12, a13, a14, a15, a16, a17) 0 (nI 0) := by
  refine av_visit (by omega) P.1 (by decide) P.2.2.1 rfl rfl (fun b12 b14 b15 b16 b17 h12 _ _ _ _ => br_t rfl ?_)
  refine av_ap_any hv (fun t ht => av_init0 (fun j hj => by rw [h12 j hj, h7 j hj]) ht) (fun c12 c13 hc => br_f (by decide) ?_)
  exact av_join0 (p := 1) (by omega) hf (fun b7 h7' => br_f (by decide) (H b7 c12 c13 b14 b15 b16 b17 (fun t ht => by rw [av_memx h7' ht, hc t ht])))
theorem av_v0_copy {post : St2 → Prop} {c l lv wt : Int32} {a1 a2 a3 a4 a5 a6 a8 a9 a10 a11 a14 a15 a16 a17 : Nat → Int32} {a7 a12 a13 : Nat → Int64} {v b : Nat} (hv : v < 3) (hb : b < 15) (P : av_prog v b a1 a2 a3 a4) (hf : a6 2 = 0) (h7 : ∀ t, t < 512 → av_mem (fun j => a7 (8 * 1 + j)) t = av_M1 v t)
    (H : ∀ (b7 b12 b13 : Nat → Int64) (b14 b15 b16 b17 : Nat → Int32), (∀ t, t < 512 → av_mem (fun j => b7 (8 * 2 + j)) t = av_M2 v b t) → post (c, l, 1, wt ||| ((1 : Int32) <<< (nI 2 &&& 31)), a1, a2, a3, a4, a5, upd a6 2 1, b7, a8, a9, a10, a11, b12, b13, b14, b15, b16, b17)) : wpX_visit post (c, l, lv, wt, a1, a2, a3, a4, a5, a6, a7, a8, a9, a10, a11, a12, a13, a14, a15, a16, a17) 0 (nI 1) := by
  refine av_visit (by omega) P.2.1 (by decide) P.2.2.2.1 P.2.2.2.2.1 P.2.2.2.2.2 (fun b12 b14 b15 b16 b17 h12 _ _ _ _ => br_t rfl ?_)
  refine av_ap_copy hv hb (fun t ht => by rw [av_memx h12 ht]; exact h7 t ht) (fun c12 c13 hc => br_f (by decide) ?_)
  exact av_join0 (p := 2) (by omega) hf (fun b7 h7' => br_f (by decide) (H b7 c12 c13 b14 b15 b16 b17 (fun t ht => by rw [av_memx h7' ht, hc t ht])))
/-! way 1 -/
theorem av_v1_any {post : St2 → Prop} {c l lv wt : Int32} {a1 a2 a3 a4 a5 a6 a8 a9 a10 a11 a14 a15 a16 a17 : Nat → Int32} {a7 a12 a13 : Nat → Int64} {v b : Nat} (hv : v < 3) (P : av_prog v b a1 a2 a3 a4) (hf : a6 1 = 1) (h8 : ∀ j, j < 3 → a8 (3 * 0 + j) = 1)
    (H : ∀ (b8 : Nat → Int32) (b12 : Nat → Int64) (b14 b15 b16 b17 : Nat → Int32), (∀ j, j < 3 → b8 (3 * 1 + j) = av_S1 v j) → post (c, l, 1, wt ||| ((1 : Int32) <<< (nI 1 &&& 31)), a1, a2, a3, a4, a5, upd a6 1 3, a7, b8, a9, a10, a11, b12, a13, b14, b15, b16, b17)) : wpX_visit post (c, l, lv, wt, a1, a2, a3, a4, a5, a6, a7, a8, a9, a10, a11, a12, a13, a14, a15, a16, a17) 1 (nI 0) := by
  refine av_visit (by omega) P.1 (by decide) P.2.2.1 rfl rfl (fun b12 b14 b15 b16 b17 _ h14 _ _ _ => br_f (by decide) (br_t rfl ?_))
  refine av_sets_any hv (fun j hj => by rw [h14 j hj, h8 j hj]; rfl) (fun c14 hc => br_f (by decide) ?_)
  exact av_join1 (p := 1) (by omega) hf (fun j hj => by rw [hc j hj]; exact (av_S1t v hv j hj).1) (fun b8 h8' => br_f (by decide) (H b8 b12 c14 b15 b16 b17 (fun j hj => by rw [h8' j hj, hc j hj])))
theorem av_v1_copy {post : St2 → Prop} {c l lv wt : Int32} {a1 a2 a3 a4 a5 a6 a8 a9 a10 a11 a14 a15 a16 a17 : Nat → Int32} {a7 a12 a13 : Nat → Int64} {v b : Nat} (hv : v < 3) (hb : b < 15) (P : av_prog v b a1 a2 a3 a4) (hf : a6 2 = 1) (h8 : ∀ j, j < 3 → a8 (3 * 1 + j) = av_S1 v j)
    (H : ∀ (b8 : Nat → Int32) (b12 : Nat → Int64) (b14 b15 b16 b17 : Nat → Int32), (∀ j, j < 3 → b8 (3 * 2 + j) = av_S2 v b j) → post (c, l, 1, wt ||| ((1 : Int32) <<< (nI 2 &&& 31)), a1, a2, a3, a4, a5, upd a6 2 3, a7, b8, a9, a10, a11, b12, a13, b14, b15, b16, b17)) : wpX_visit post (c, l, lv, wt, a1, a2, a3, a4, a5, a6, a7, a8, a9, a10, a11, a12, a13, a14, a15, a16, a17) 1 (nI 1) := by
  refine av_visit (by omega) P.2.1 (by decide) P.2.2.2.1 P.2.2.2.2.1 P.2.2.2.2.2 (fun b12 b14 b15 b16 b17 _ h14 _ _ _ => br_f (by decide) (br_t rfl ?_))
  refine av_sets_copy hv hb (fun j hj => by rw [h14 j hj, h8 j hj, vp_nar_short]; exact (av_S1t v hv j hj).1) (fun c14 hc => br_f (by decide) ?_)
  exact av_join1 (p := 2) (by omega) hf (fun j hj => by rw [hc j hj]; exact (av_S2t v hv b hb j hj).1) (fun b8 h8' => br_f (by decide) (H b8 b12 c14 b15 b16 b17 (fun j hj => by rw [h8' j hj, hc j hj])))
/-! way 2 -/
theorem av_v2_any {post : St2 → Prop} {c l lv wt : Int32} {a1 a2 a3 a4 a5 a6 a8 a9 a10 a11 a14 a15 a16 a17 : Nat → Int32} {a7 a12 a13 : Nat → Int64} {v b : Nat} (hv : v < 3) (P : av_prog v b a1 a2 a3 a4) (hf : a6 1 = 11) (h9 : ∀ j, j < 3 → a9 (3 * 0 + j) = 0) (h10 : ∀ j, j < 3 → a10 (3 * 0 + j) = 0)
    (H : ∀ (b9 b10 : Nat → Int32) (b12 : Nat → Int64) (b14 b15 b16 b17 : Nat → Int32), (∀ j, j < 3 → b9 (3 * 1 + j) = 0) → (∀ j, j < 3 → b10 (3 * 1 + j) = av_H1 v j) → post (c, l, 1, wt ||| ((1 : Int32) <<< (nI 1 &&& 31)), a1, a2, a3, a4, a5, upd a6 1 15, a7, a8, b9, b10, a11, b12, a13, b14, b15, b16, b17)) : wpX_visit post (c, l, lv, wt, a1, a2, a3, a4, a5, a6, a7, a8, a9, a10, a11, a12, a13, a14, a15, a16, a17) 2 (nI 0) := by
  refine av_visit (by omega) P.1 (by decide) P.2.2.1 rfl rfl (fun b12 b14 b15 b16 b17 _ _ h15 h16 _ => br_f (by decide) (br_f (by decide) (br_t rfl ?_)))
  refine av_rng_any hv (fun j hj => by rw [h15 j hj, h9 j hj]; rfl) (fun j hj => by rw [h16 j hj, h10 j hj]; rfl) (fun c15 c16 hc hd => br_f (by decide) ?_)
  exact av_join2 (p := 1) (by omega) hf (fun j hj => by rw [hc j hj]; exact ⟨rfl, by decide⟩) (fun j hj => by rw [hd j hj, vp_nar_byte]; exact ⟨(av_R1t v hv j hj).2, (av_R1t v hv j hj).1⟩) (fun b9 b10 h9' h10' => br_f (by decide) (H b9 b10 b12 b14 c15 c16 b17 (fun j hj => by rw [h9' j hj, hc j hj]) (fun j hj => by rw [h10' j hj, hd j hj])))
theorem av_v2_copy {post : St2 → Prop} {c l lv wt : Int32} {a1 a2 a3 a4 a5 a6 a8 a9 a10 a11 a14 a15 a16 a17 : Nat → Int32} {a7 a12 a13 : Nat → Int64} {v b : Nat} (hv : v < 3) (hb : b < 15) (P : av_prog v b a1 a2 a3 a4) (hf : a6 2 = 11) (h9 : ∀ j, j < 3 → a9 (3 * 1 + j) = 0) (h10 : ∀ j, j < 3 → a10 (3 * 1 + j) = av_H1 v j)
    (H : ∀ (b9 b10 : Nat → Int32) (b12 : Nat → Int64) (b14 b15 b16 b17 : Nat → Int32), (∀ j, j < 3 → b9 (3 * 2 + j) = av_L2 v b j) → (∀ j, j < 3 → b10 (3 * 2 + j) = av_H2 v b j) → post (c, l, 1, wt ||| ((1 : Int32) <<< (nI 2 &&& 31)), a1, a2, a3, a4, a5, upd a6 2 15, a7, a8, b9, b10, a11, b12, a13, b14, b15, b16, b17)) : wpX_visit post (c, l, lv, wt, a1, a2, a3, a4, a5, a6, a7, a8, a9, a10, a11, a12, a13, a14, a15, a16, a17) 2 (nI 1) := by
  refine av_visit (by omega) P.2.1 (by decide) P.2.2.2.1 P.2.2.2.2.1 P.2.2.2.2.2 (fun b12 b14 b15 b16 b17 _ _ h15 h16 _ => br_f (by decide) (br_f (by decide) (br_t rfl ?_)))
  refine av_rng_copy hv hb (fun j hj => by rw [h15 j hj, h9 j hj]; rfl) (fun j hj => by rw [h16 j hj, h10 j hj, vp_nar_byte]; exact (av_R1t v hv j hj).2) (fun c15 c16 hc hd => br_f (by decide) ?_)
  have R := av_R2t v hv b hb
  exact av_join2 (p := 2) (by omega) hf (fun j hj => by rw [hc j hj, vp_nar_byte]; exact ⟨(R j hj).2.1, (R j hj).2.2.1⟩) (fun j hj => by rw [hd j hj, vp_nar_byte]; exact ⟨(R j hj).2.2.2.1, (R j hj).2.2.2.2⟩) (fun b9 b10 h9' h10' => br_f (by decide) (H b9 b10 b12 b14 c15 c16 b17 (fun j hj => by rw [h9' j hj, hc j hj]) (fun j hj => by rw [h10' j hj, hd j hj])))
/-! way 3 -/
theorem av_len_an (T : List Int32) (a : Nat) : ∀ k, (av_an T a k).length = T.length := by
  intro k
  induction k with
  | zero => rfl
  | succ k ih =>
    unfold av_an
    split
    · exact ih
    · rw [List.length_set, List.length_set, ih]
theorem av_v3_any {post : St2 → Prop} {c l lv wt : Int32} {a1 a2 a3 a4 a5 a6 a8 a9 a10 a11 a14 a15 a16 a17 : Nat → Int32} {a7 a12 a13 : Nat → Int64} {v b : Nat} (hv : v < 3) (P : av_prog v b a1 a2 a3 a4) (hf : a6 1 = 3) (h11 : ∀ j, j < 16 → a11 (16 * 0 + j) = 0)
    (H : ∀ (b11 : Nat → Int32) (b12 : Nat → Int64) (b14 b15 b16 b17 : Nat → Int32), (∀ j, j < 16 → b11 (16 * 1 + j) = (av_T1 v).getD j 0) → post (c, l, 1, wt ||| ((1 : Int32) <<< (nI 1 &&& 31)), a1, a2, a3, a4, a5, upd a6 1 11, a7, a8, a9, a10, b11, b12, a13, b14, b15, b16, b17)) : wpX_visit post (c, l, lv, wt, a1, a2, a3, a4, a5, a6, a7, a8, a9, a10, a11, a12, a13, a14, a15, a16, a17) 3 (nI 0) := by
  refine av_visit (by omega) P.1 (by decide) P.2.2.1 rfl rfl (fun b12 b14 b15 b16 b17 _ _ _ _ h17 => br_f (by decide) (br_f (by decide) (br_f (by decide) ?_)))
  have z0 : ∀ j, j < 16 → av_T0.getD j 0 = 0 := by decide
  refine av_any3 (T := av_T0) hv ⟨rfl, fun j hj => by rw [h17 j hj, h11 j hj, z0 j hj]; rfl⟩ (fun c17 hc => br_f (by decide) ?_)
  exact av_join3 (p := 1) (by omega) hf (fun j hj => by rw [hc.2 j hj, vp_nar_byte]; exact av_t1 v hv j hj) (fun b11 h11' => br_f (by decide) (H b11 b12 b14 b15 b16 c17 (fun j hj => by rw [h11' j hj, hc.2 j hj]; rfl)))
theorem av_v3_copy {post : St2 → Prop} {c l lv wt : Int32} {a1 a2 a3 a4 a5 a6 a8 a9 a10 a11 a14 a15 a16 a17 : Nat → Int32} {a7 a12 a13 : Nat → Int64} {v b : Nat} (hv : v < 3) (hb : b < 15) (P : av_prog v b a1 a2 a3 a4) (hf : a6 2 = 3) (h11 : ∀ j, j < 16 → a11 (16 * 1 + j) = (av_T1 v).getD j 0)
    (H : ∀ (b11 : Nat → Int32) (b12 : Nat → Int64) (b14 b15 b16 b17 : Nat → Int32), (∀ j, j < 16 → b11 (16 * 2 + j) = (av_T2 v b).getD j 0) → post (c, l, 1, wt ||| ((1 : Int32) <<< (nI 2 &&& 31)), a1, a2, a3, a4, a5, upd a6 2 11, a7, a8, a9, a10, b11, b12, a13, b14, b15, b16, b17)) : wpX_visit post (c, l, lv, wt, a1, a2, a3, a4, a5, a6, a7, a8, a9, a10, a11, a12, a13, a14, a15, a16, a17) 3 (nI 1) := by
  refine av_visit (by omega) P.2.1 (by decide) P.2.2.2.1 P.2.2.2.2.1 P.2.2.2.2.2 (fun b12 b14 b15 b16 b17 _ _ _ _ h17 => br_f (by decide) (br_f (by decide) (br_f (by decide) ?_)))
  refine av_copy3 hv hb rfl ⟨by unfold av_T1; rw [av_len_an]; rfl, fun j hj => by rw [h17 j hj, h11 j hj, vp_nar_byte]; exact (av_t1 v hv j hj).1⟩ (fun c17 hc => br_f (by decide) ?_)
  exact av_join3 (p := 2) (by omega) hf (fun j hj => by rw [hc.2 j hj, vp_nar_byte]; exact av_t2 v hv b hb j hj) (fun b11 h11' => br_f (by decide) (H b11 b12 b14 b15 b16 c17 (fun j hj => by rw [h11' j hj, hc.2 j hj])))
end
section
/-! analyse, printed by gen6.py: one theorem a way -/
theorem av_fil3 (a : Nat → Int32) (x : Int32) : ∀ j, j < 3 → upd (upd (upd a 0 x) 1 x) 2 x j = x := by
  intro j hj
  unfold upd
  rcases (by omega : j = 0 ∨ j = 1 ∨ j = 2) with e | e | e <;> subst e <;> rfl
theorem av_anDone {post : St2 → Prop} {c l lv wt : Int32} {a1 a2 a3 a4 a5 a6 a8 a9 a10 a11 a14 a15 a16 a17 : Nat → Int32} {a7 a12 a13 : Nat → Int64} {w : Nat} (hw : w < 4) (h : a5 w = 1) (H : post (c, l, lv, wt, a1, a2, a3, a4, a5, a6, a7, a8, a9, a10, a11, a12, a13, a14, a15, a16, a17)) : wpX_analyse post (c, l, lv, wt, a1, a2, a3, a4, a5, a6, a7, a8, a9, a10, a11, a12, a13, a14, a15, a16, a17) (nI w) := by
  unfold wpX_analyse
  exact And.intro (pk_in w 4 hw) (br_f (by rw [nI_clamp (by omega), h]; decide) H)
theorem av_an0 {post : St2 → Prop} {lv wt : Int32} {a1 a2 a3 a4 a5 a6 a8 a9 a10 a11 a14 a15 a16 a17 : Nat → Int32} {a7 a12 a13 : Nat → Int64} {v b : Nat} (hv : v < 3) (hb : b < 15) (P : av_prog v b a1 a2 a3 a4) (h5 : a5 0 = 0) (h6 : ∀ j, j < 3 → a6 j = 0)
    (H : ∀ (lv wt : Int32) (b6 : Nat → Int32) (b7 : Nat → Int64) (b12 b13 : Nat → Int64) (b14 b15 b16 b17 : Nat → Int32), (∀ j, j < 3 → b6 j = 1) → (∀ t, t < 512 → av_mem (fun j => b7 (8 * 2 + j)) t = av_M2 v b t) → post (2, 1, lv, wt, a1, a2, a3, a4, upd a5 0 1, b6, b7, a8, a9, a10, a11, b12, b13, b14, b15, b16, b17)) : wpX_analyse post (2, 1, lv, wt, a1, a2, a3, a4, a5, a6, a7, a8, a9, a10, a11, a12, a13, a14, a15, a16, a17) 0 := by
  unfold wpX_analyse
  refine And.intro (pk_in 0 4 (by omega)) (br_t h5 (And.intro (pk_in 0 4 (by omega)) (nm_r (e' := upd a5 0 1) rfl ?_)))
  refine pk_loop (fun n i s => wX_analyse_19 post 0 2 1 lv wt n (nI i) a1 a2 a3 a4 (upd a5 0 1) s a7 a8 a9 a10 a11 a12 a13 a14 a15 a16 a17) (fun i s => ∀ j, j < 3 → s j = 0) 3 0 a6 (by omega) h6 (fun n s h6 => pk_lt 2 3 (fun _ => ?_) (fun z => absurd z (by omega))) (fun n i s hi h hw => pk_lt 2 i (fun z => absurd z (by omega)) (fun _ => ⟨pk_in i 21 (by omega), pk_in i 21 (by omega), nm_e (nm_r (nI_1 i) (hw _ (av_keep h (by rw [nI_clamp (by omega), h i hi]; rfl))))⟩))
  refine av_begin0 (fun b12 b14 b15 b16 b17 h12 => ?_)
  refine av_join0 (p := 0) (by omega) (h6 0 (by omega)) (fun c7 h7 => br_f (by decide) ⟨4, ?_⟩)
  refine br_f (by decide) ⟨1, br_f (by decide) (nm_r (e' := 0) (by decide) (br_f (by decide) ?_))⟩
  refine av_v0_any hv P (h6 1 (by omega)) (fun j hj => by rw [h7 j hj, h12 j hj]) (fun d7 d12 d13 d14 d15 d16 d17 hd => ?_)
  refine br_f (by decide) ⟨2, br_t (by decide) (nm_r (e' := 1) (by decide) (br_f (by decide) (nm_r (e' := 0) (by decide) (br_f (by decide) ?_))))⟩
  refine av_v0_copy hv hb P (h6 2 (by omega)) hd (fun e7 e12 e13 e14 e15 e16 e17 he => ?_)
  refine br_f (by decide) ⟨3, br_t (by decide) (nm_r (e' := 1) (by decide) (br_t (by decide) (nm_r (e' := 2) (by decide) (br_f (by decide) (nm_r (e' := 0) (by decide) (br_t (by decide) ?_))))))⟩
  exact br_t rfl (H 1 0 _ e7 e12 e13 e14 e15 e16 e17 (av_fil3 _ _) he)
theorem av_an1 {post : St2 → Prop} {lv wt : Int32} {a1 a2 a3 a4 a5 a6 a8 a9 a10 a11 a14 a15 a16 a17 : Nat → Int32} {a7 a12 a13 : Nat → Int64} {v b : Nat} (hv : v < 3) (hb : b < 15) (P : av_prog v b a1 a2 a3 a4) (h5 : a5 1 = 0) (h6 : ∀ j, j < 3 → a6 j = 1)
    (H : ∀ (lv wt : Int32) (b6 : Nat → Int32) (b8 : Nat → Int32) (b12 b13 : Nat → Int64) (b14 b15 b16 b17 : Nat → Int32), (∀ j, j < 3 → b6 j = 3) → (∀ j, j < 3 → b8 (3 * 2 + j) = av_S2 v b j) → post (2, 1, lv, wt, a1, a2, a3, a4, upd a5 1 1, b6, a7, b8, a9, a10, a11, b12, b13, b14, b15, b16, b17)) : wpX_analyse post (2, 1, lv, wt, a1, a2, a3, a4, a5, a6, a7, a8, a9, a10, a11, a12, a13, a14, a15, a16, a17) 1 := by
  unfold wpX_analyse
  refine And.intro (pk_in 1 4 (by omega)) (br_t h5 (And.intro (pk_in 1 4 (by omega)) (nm_r (e' := upd a5 1 1) rfl ?_)))
  refine pk_loop (fun n i s => wX_analyse_19 post 1 2 1 lv wt n (nI i) a1 a2 a3 a4 (upd a5 1 1) s a7 a8 a9 a10 a11 a12 a13 a14 a15 a16 a17) (fun i s => ∀ j, j < 3 → s j = 1) 3 0 a6 (by omega) h6 (fun n s h6 => pk_lt 2 3 (fun _ => ?_) (fun z => absurd z (by omega))) (fun n i s hi h hw => pk_lt 2 i (fun z => absurd z (by omega)) (fun _ => ⟨pk_in i 21 (by omega), pk_in i 21 (by omega), nm_e (nm_r (nI_1 i) (hw _ (av_keep h (by rw [nI_clamp (by omega), h i hi]; rfl))))⟩))
  refine av_beginN (by decide) (fun b14 b15 b16 b17 h14 h15 h16 h17 => ?_)
  refine av_join1 (p := 0) (by omega) (h6 0 (by omega)) (fun j hj => by rw [h14 j hj]; rfl) (fun c8 h8 => br_f (by decide) ⟨4, ?_⟩)
  refine br_f (by decide) ⟨1, br_f (by decide) (nm_r (e' := 0) (by decide) (br_f (by decide) ?_))⟩
  refine av_v1_any hv P (h6 1 (by omega)) (fun j hj => by rw [h8 j hj, h14 j hj]) (fun d8 d12 d14 d15 d16 d17 hd => ?_)
  refine br_f (by decide) ⟨2, br_t (by decide) (nm_r (e' := 1) (by decide) (br_f (by decide) (nm_r (e' := 0) (by decide) (br_f (by decide) ?_))))⟩
  refine av_v1_copy hv hb P (h6 2 (by omega)) hd (fun e8 e12 e14 e15 e16 e17 he => ?_)
  refine br_f (by decide) ⟨3, br_t (by decide) (nm_r (e' := 1) (by decide) (br_t (by decide) (nm_r (e' := 2) (by decide) (br_f (by decide) (nm_r (e' := 0) (by decide) (br_t (by decide) ?_))))))⟩
  exact br_t rfl (H 1 0 _ e8 e12 a13 e14 e15 e16 e17 (av_fil3 _ _) he)
theorem av_an3 {post : St2 → Prop} {lv wt : Int32} {a1 a2 a3 a4 a5 a6 a8 a9 a10 a11 a14 a15 a16 a17 : Nat → Int32} {a7 a12 a13 : Nat → Int64} {v b : Nat} (hv : v < 3) (hb : b < 15) (P : av_prog v b a1 a2 a3 a4) (h5 : a5 3 = 0) (h6 : ∀ j, j < 3 → a6 j = 3)
    (H : ∀ (lv wt : Int32) (b6 : Nat → Int32) (b11 : Nat → Int32) (b12 b13 : Nat → Int64) (b14 b15 b16 b17 : Nat → Int32), (∀ j, j < 3 → b6 j = 11) → (∀ j, j < 16 → b11 (16 * 2 + j) = (av_T2 v b).getD j 0) → post (2, 1, lv, wt, a1, a2, a3, a4, upd a5 3 1, b6, a7, a8, a9, a10, b11, b12, b13, b14, b15, b16, b17)) : wpX_analyse post (2, 1, lv, wt, a1, a2, a3, a4, a5, a6, a7, a8, a9, a10, a11, a12, a13, a14, a15, a16, a17) 3 := by
  unfold wpX_analyse
  refine And.intro (pk_in 3 4 (by omega)) (br_t h5 (And.intro (pk_in 3 4 (by omega)) (nm_r (e' := upd a5 3 1) rfl ?_)))
  refine pk_loop (fun n i s => wX_analyse_19 post 3 2 1 lv wt n (nI i) a1 a2 a3 a4 (upd a5 3 1) s a7 a8 a9 a10 a11 a12 a13 a14 a15 a16 a17) (fun i s => ∀ j, j < 3 → s j = 3) 3 0 a6 (by omega) h6 (fun n s h6 => pk_lt 2 3 (fun _ => ?_) (fun z => absurd z (by omega))) (fun n i s hi h hw => pk_lt 2 i (fun z => absurd z (by omega)) (fun _ => ⟨pk_in i 21 (by omega), pk_in i 21 (by omega), nm_e (nm_r (nI_1 i) (hw _ (av_keep h (by rw [nI_clamp (by omega), h i hi]; rfl))))⟩))
  refine av_beginN (by decide) (fun b14 b15 b16 b17 h14 h15 h16 h17 => ?_)
  refine av_join3 (p := 0) (by omega) (h6 0 (by omega)) (fun j hj => by rw [h17 j hj]; exact ⟨rfl, by decide⟩) (fun c11 h11 => br_f (by decide) ⟨4, ?_⟩)
  refine br_f (by decide) ⟨1, br_f (by decide) (nm_r (e' := 0) (by decide) (br_f (by decide) ?_))⟩
  refine av_v3_any hv P (h6 1 (by omega)) (fun j hj => by rw [h11 j hj, h17 j hj]) (fun d11 d12 d14 d15 d16 d17 hd => ?_)
  refine br_f (by decide) ⟨2, br_t (by decide) (nm_r (e' := 1) (by decide) (br_f (by decide) (nm_r (e' := 0) (by decide) (br_f (by decide) ?_))))⟩
  refine av_v3_copy hv hb P (h6 2 (by omega)) hd (fun e11 e12 e14 e15 e16 e17 he => ?_)
  refine br_f (by decide) ⟨3, br_t (by decide) (nm_r (e' := 1) (by decide) (br_t (by decide) (nm_r (e' := 2) (by decide) (br_f (by decide) (nm_r (e' := 0) (by decide) (br_t (by decide) ?_))))))⟩
  exact br_t rfl (H 1 0 _ e11 e12 a13 e14 e15 e16 e17 (av_fil3 _ _) he)
theorem av_an2 {post : St2 → Prop} {lv wt : Int32} {a1 a2 a3 a4 a5 a6 a8 a9 a10 a11 a14 a15 a16 a17 : Nat → Int32} {a7 a12 a13 : Nat → Int64} {v b : Nat} (hv : v < 3) (hb : b < 15) (P : av_prog v b a1 a2 a3 a4) (h5 : a5 2 = 0) (h6 : ∀ j, j < 3 → a6 j = 11)
    (H : ∀ (lv wt : Int32) (b6 : Nat → Int32) (b9 b10 : Nat → Int32) (b12 b13 : Nat → Int64) (b14 b15 b16 b17 : Nat → Int32), (∀ j, j < 3 → b6 j = 15) → (∀ j, j < 3 → b9 (3 * 2 + j) = av_L2 v b j) → (∀ j, j < 3 → b10 (3 * 2 + j) = av_H2 v b j) → post (2, 1, lv, wt, a1, a2, a3, a4, upd a5 2 1, b6, a7, a8, b9, b10, a11, b12, b13, b14, b15, b16, b17)) : wpX_analyse post (2, 1, lv, wt, a1, a2, a3, a4, a5, a6, a7, a8, a9, a10, a11, a12, a13, a14, a15, a16, a17) 2 := by
  unfold wpX_analyse
  refine And.intro (pk_in 2 4 (by omega)) (br_t h5 (And.intro (pk_in 2 4 (by omega)) (nm_r (e' := upd a5 2 1) rfl ?_)))
  refine pk_loop (fun n i s => wX_analyse_19 post 2 2 1 lv wt n (nI i) a1 a2 a3 a4 (upd a5 2 1) s a7 a8 a9 a10 a11 a12 a13 a14 a15 a16 a17) (fun i s => ∀ j, j < 3 → s j = 11) 3 0 a6 (by omega) h6 (fun n s h6 => pk_lt 2 3 (fun _ => ?_) (fun z => absurd z (by omega))) (fun n i s hi h hw => pk_lt 2 i (fun z => absurd z (by omega)) (fun _ => ⟨pk_in i 21 (by omega), pk_in i 21 (by omega), nm_e (nm_r (nI_1 i) (hw _ (av_keep h (by rw [nI_clamp (by omega), h i hi]; rfl))))⟩))
  refine av_beginN (by decide) (fun b14 b15 b16 b17 h14 h15 h16 h17 => ?_)
  refine av_join2 (p := 0) (by omega) (h6 0 (by omega)) (fun j hj => by rw [h15 j hj]; exact ⟨rfl, by decide⟩) (fun j hj => by rw [h16 j hj]; exact ⟨rfl, by decide⟩) (fun c9 c10 h9 h10 => br_f (by decide) ⟨4, ?_⟩)
  refine br_f (by decide) ⟨1, br_f (by decide) (nm_r (e' := 0) (by decide) (br_f (by decide) ?_))⟩
  refine av_v2_any hv P (h6 1 (by omega)) (fun j hj => by rw [h9 j hj, h15 j hj]) (fun j hj => by rw [h10 j hj, h16 j hj]) (fun d9 d10 d12 d14 d15 d16 d17 hd hd' => ?_)
  refine br_f (by decide) ⟨2, br_t (by decide) (nm_r (e' := 1) (by decide) (br_f (by decide) (nm_r (e' := 0) (by decide) (br_f (by decide) ?_))))⟩
  refine av_v2_copy hv hb P (h6 2 (by omega)) hd hd' (fun e9 e10 e12 e14 e15 e16 e17 he he' => ?_)
  refine br_f (by decide) ⟨3, br_t (by decide) (nm_r (e' := 1) (by decide) (br_t (by decide) (nm_r (e' := 2) (by decide) (br_f (by decide) (nm_r (e' := 0) (by decide) (br_t (by decide) ?_))))))⟩
  exact br_t rfl (H 1 0 _ e9 e10 e12 a13 e14 e15 e16 e17 (av_fil3 _ _) he he')
end
section
/-! the answers: membership by each way -/
def av_lov (b : Nat) : Nat := if 7 ≤ b then 0 else 7 - b
def av_hiv (b : Nat) : Nat := if b ≤ 7 then 7 else 14 - b
def av_low (b : Nat) : Nat := if 7 ≤ b then b - 7 else 0
def av_hiw (b : Nat) : Nat := if b ≤ 7 then b else 7
def av_lo (v b t : Nat) : Nat := if t = av_w v then av_low b else if t = v then av_lov b else 0
def av_hi (v b t : Nat) : Nat := if t = av_w v then av_hiw b else if t = v then av_hiv b else 0
def av_rg (v b s t : Nat) : Bool := Nat.ble (av_lo v b t) (av_d s t) && Nat.ble (av_d s t) (av_hi v b t)
def av_R (v b s : Nat) : Bool := av_rg v b s 0 && av_rg v b s 1 && av_rg v b s 2
theorem av_rgI {v b s t : Nat} : av_rg v b s t = true ↔ av_lo v b t ≤ av_d s t ∧ av_d s t ≤ av_hi v b t := by
  unfold av_rg
  rw [Bool.and_eq_true, Nat.ble_eq, Nat.ble_eq]
theorem av_R_all {v b s : Nat} (h : ∀ t, t < 3 → av_rg v b s t = true) : av_R v b s = true := by
  unfold av_R
  rw [h 0 (by omega), h 1 (by omega), h 2 (by omega)]
  rfl
theorem av_R_not {v b s t : Nat} (ht : t < 3) (h : ¬ av_rg v b s t = true) : av_R v b s = false := by
  unfold av_R
  rcases (by omega : t = 0 ∨ t = 1 ∨ t = 2) with e | e | e <;> subst e <;> rw [Bool.not_eq_true] at h <;> rw [h] <;> simp
theorem av_S2b : ∀ v, v < 3 → ∀ b, b < 15 → ∀ t, t < 3 → ∀ x, x < 8 → (((av_S2 v b t >>> (nI x &&& 31)) &&& 1) = 0 ↔ ¬ (av_lo v b t ≤ x ∧ x ≤ av_hi v b t)) := by decide +kernel
theorem av_LH : ∀ v, v < 3 → ∀ b, b < 15 → ∀ t, t < 3 → av_L2 v b t = nI (av_lo v b t) ∧ av_H2 v b t = nI (av_hi v b t) ∧ av_lo v b t < 8 ∧ av_hi v b t < 8 := by decide +kernel
theorem av_i32 (i : Nat) : (3 : Int32) * 2 + nI i = nI (3 * 2 + i) := av_i3 2 i
theorem av_in0 {post : Int32 → Prop} {c l lv wt : Int32} {a1 a2 a3 a4 a5 a6 a8 a9 a10 a11 a14 a15 a16 a17 : Nat → Int32} {a7 a12 a13 : Nat → Int64} {s : Nat} {p : Nat → Bool} (hs : s < 512) (hf : ¬ ((a6 2) >>> ((0 : Int32) &&& 31)) &&& 1 = 0) (h7 : ∀ t, t < 512 → av_mem (fun j => a7 (8 * 2 + j)) t = p t) (H : post (if p s then 1 else 0)) : wpX_isIn post (c, l, lv, wt, a1, a2, a3, a4, a5, a6, a7, a8, a9, a10, a11, a12, a13, a14, a15, a16, a17) 0 2 (nI s) := by
  unfold wpX_isIn
  have e : (8 : Int32) * 2 + (nI s >>> ((6 : Int32) &&& 31)) = nI (8 * 2 + s / 64) := by
    rw [av_sh6 hs]
    exact av_i8 2 (s / 64)
  refine av_isF1 (i := 2) (by omega) hf (br_f (by decide) (br_t rfl (And.intro (pk_in (8 * 2 + s / 64) 168 (by omega) e) ?_)))
  rw [av_clN (8 * 2 + s / 64) (by omega) e]
  have k : ((((a7 (8 * 2 + s / 64)).toUInt64 >>> ((nI s &&& 63).toInt64.toUInt64 &&& Int64.toUInt64 63)).toInt64) &&& 1) = 0 ↔ p s = false := by
    rw [av_test hs, ← h7 s hs]
    exact Iff.rfl
  refine ek_if k (fun z => ?_) (fun z => ?_)
  · rw [z] at H
    exact H
  · rw [Bool.not_eq_false] at z
    rw [z] at H
    exact H
theorem av_in1 {post : Int32 → Prop} {c l lv wt : Int32} {a1 a2 a3 a4 a5 a6 a8 a9 a10 a11 a14 a15 a16 a17 : Nat → Int32} {a7 a12 a13 : Nat → Int64} {s v b : Nat} (hv : v < 3) (hb : b < 15) (hs : s < 512) (hf : ¬ ((a6 2) >>> ((1 : Int32) &&& 31)) &&& 1 = 0) (h8 : ∀ j, j < 3 → a8 (3 * 2 + j) = av_S2 v b j) (H : post (if av_R v b s then 1 else 0)) : wpX_isIn post (c, l, lv, wt, a1, a2, a3, a4, a5, a6, a7, a8, a9, a10, a11, a12, a13, a14, a15, a16, a17) 1 2 (nI s) := by
  unfold wpX_isIn
  refine av_isF1 (i := 2) (by omega) hf (br_f (by decide) (br_f (by decide) (br_f (by decide) ?_)))
  refine pk_loop (σ := Unit) (fun n i _ => wX_isIn_62 post 1 2 (nI s) c l lv wt a1 a2 a3 a4 a5 a6 a7 a8 a9 a10 a11 a12 a13 a14 a15 a16 a17 n (nI i)) (fun i _ => ∀ t, t < i → av_rg v b s t = true) 3 0 () (by omega) (fun t ht => absurd ht (by omega))
    (fun n _ h => pk_le 3 3 (fun _ => ?_) (fun z => absurd z (by omega)))
    (fun n i _ hi h hw => pk_le 3 i (fun z => absurd z (by omega)) (fun _ => av_valueIn hs (by omega) (br_t rfl (And.intro (pk_in (3 * 2 + i) 63 (by omega) (av_i32 i)) ?_))))
  · rw [av_R_all h] at H
    exact H
  · have e : a8 ((3 : Int32) * 2 + nI i).toNatClampNeg = av_S2 v b i := by
      rw [av_clN (3 * 2 + i) (by omega) (av_i32 i)]
      exact h8 i hi
    rw [e]
    refine ek_if (av_S2b v hv b hb i hi _ (av_d_lt s i)) (fun z => br_t rfl ?_) (fun z => br_f (by decide) (nm_r (nI_1 i) (hw () ?_)))
    · rw [← av_rgI] at z
      rw [av_R_not hi z] at H
      exact H
    · rw [Classical.not_not, ← av_rgI] at z
      intro t ht
      by_cases et : t = i
      · rw [et]; exact z
      · exact h t (by omega)
theorem av_in2 {post : Int32 → Prop} {c l lv wt : Int32} {a1 a2 a3 a4 a5 a6 a8 a9 a10 a11 a14 a15 a16 a17 : Nat → Int32} {a7 a12 a13 : Nat → Int64} {s v b : Nat} (hv : v < 3) (hb : b < 15) (hs : s < 512) (hf : ¬ ((a6 2) >>> ((2 : Int32) &&& 31)) &&& 1 = 0) (h9 : ∀ j, j < 3 → a9 (3 * 2 + j) = av_L2 v b j) (h10 : ∀ j, j < 3 → a10 (3 * 2 + j) = av_H2 v b j) (H : post (if av_R v b s then 1 else 0)) : wpX_isIn post (c, l, lv, wt, a1, a2, a3, a4, a5, a6, a7, a8, a9, a10, a11, a12, a13, a14, a15, a16, a17) 2 2 (nI s) := by
  unfold wpX_isIn
  refine av_isF1 (i := 2) (by omega) hf (br_f (by decide) (br_f (by decide) (br_f (by decide) ?_)))
  refine pk_loop (σ := Unit) (fun n i _ => wX_isIn_62 post 2 2 (nI s) c l lv wt a1 a2 a3 a4 a5 a6 a7 a8 a9 a10 a11 a12 a13 a14 a15 a16 a17 n (nI i)) (fun i _ => ∀ t, t < i → av_rg v b s t = true) 3 0 () (by omega) (fun t ht => absurd ht (by omega))
    (fun n _ h => pk_le 3 3 (fun _ => ?_) (fun z => absurd z (by omega)))
    (fun n i _ hi h hw => pk_le 3 i (fun z => absurd z (by omega)) (fun _ => av_valueIn hs (by omega) (br_f (by decide) (And.intro (pk_in (3 * 2 + i) 63 (by omega) (av_i32 i)) ?_))))
  · rw [av_R_all h] at H
    exact H
  · have LH := av_LH v hv b hb i hi
    have hd := av_d_lt s i
    have e9 : a9 ((3 : Int32) * 2 + nI i).toNatClampNeg = nI (av_lo v b i) := by
      rw [av_clN (3 * 2 + i) (by omega) (av_i32 i), ← LH.1]
      exact h9 i hi
    have e10 : a10 ((3 : Int32) * 2 + nI i).toNatClampNeg = nI (av_hi v b i) := by
      rw [av_clN (3 * 2 + i) (by omega) (av_i32 i), ← LH.2.1]
      exact h10 i hi
    rw [e9, e10]
    have N : ¬ (av_lo v b i ≤ av_d s i ∧ av_d s i ≤ av_hi v b i) → post 0 := by
      intro z
      rw [← av_rgI] at z
      rw [av_R_not hi z] at H
      exact H
    refine pk_lt (av_d s i) (av_lo v b i) (fun z => br_t rfl (N (by omega))) (fun z => And.intro (pk_in (3 * 2 + i) 63 (by omega) (av_i32 i)) (pk_lt (av_hi v b i) (av_d s i) (fun y => br_t rfl (N (by omega))) (fun y => br_f (by decide) (nm_r (nI_1 i) (hw () ?_)))))
    intro t ht
    by_cases et : t = i
    · rw [et, av_rgI]; exact ⟨z, y⟩
    · exact h t (by omega)
/-! way 3 -/
def av_e (v b i k : Nat) : Int32 := if i = k then 0 else if i = v then (if k = av_w v then -(av_by b) else nI (av_hiv b)) else if i = av_w v then (if k = v then av_by b else nI (av_hiw b)) else if k = v then -(nI (av_lov b)) else if k = av_w v then -(nI (av_low b)) else 0
theorem av_T2e : ∀ v, v < 3 → ∀ b, b < 15 → ∀ i, i < 4 → ∀ k, k < 4 → (av_T2 v b).getD (4 * i + k) 0 = av_e v b i k := by decide +kernel
/-- the values of a member: x at v, x + by at w, 0 elsewhere -/
def av_val (v b x t : Nat) : Nat := if t = v then x else if t = av_w v then x + b - 7 else 0
def av_eb (v b x i k : Nat) : Bool := !(Nat.ble 7 (x + b) && Nat.ble (x + b) 14) || decide (nI (av_val v b x i) - nI (av_val v b x k) ≤ av_e v b i k)
theorem av_ebt : ∀ v, v < 3 → ∀ b, b < 15 → ∀ x, x < 8 → ∀ i, i < 4 → ∀ k, k < 4 → av_eb v b x i k = true := by decide +kernel
theorem av_e_ok {v b x i k : Nat} (hv : v < 3) (hb : b < 15) (hx : x < 8) (h : 7 ≤ x + b ∧ x + b ≤ 14) (hi : i < 4) (hk : k < 4) : nI (av_val v b x i) - nI (av_val v b x k) ≤ av_e v b i k := by
  have g := av_ebt v hv b hb x hx i hi k hk
  unfold av_eb at g
  rw [Nat.ble_eq.mpr h.1, Nat.ble_eq.mpr h.2] at g
  exact of_decide_eq_true g
theorem av_e_no1 : ∀ b, b < 15 → ∀ x, x < 8 → ∀ y, y < 8 → (nI y - nI x ≤ av_by b ↔ y + 7 ≤ x + b) ∧ (nI x - nI y ≤ -(av_by b) ↔ x + b ≤ y + 7) := by decide +kernel
theorem av_e_no2 : ∀ y, y < 8 → (nI y - nI 0 ≤ 0 ↔ y = 0) := by decide +kernel
theorem av_z_lt (v : Nat) : av_z v < 3 := Nat.mod_lt _ (by omega)
theorem av_3 {v t : Nat} (hv : v < 3) (ht : t < 3) : t = v ∨ t = av_w v ∨ t = av_z v := by
  unfold av_w av_z
  omega
theorem av_zne {v : Nat} (hv : v < 3) : av_z v ≠ v ∧ av_z v ≠ av_w v := by
  unfold av_w av_z
  omega
theorem av_M2I {v b s : Nat} : av_M2 v b s = true ↔ av_d s (av_z v) = 0 ∧ av_d s (av_w v) + 7 = av_d s v + b := by
  unfold av_M2
  rw [Bool.and_eq_true, decide_eq_true_iff, decide_eq_true_iff]
theorem av_d3 (s : Nat) : av_d s 3 = 0 := rfl
theorem av_M2_of {v b s : Nat} (hv : v < 3) (hb : b < 15) (h : ∀ i k, i < 4 → k < 4 → nI (av_d s i) - nI (av_d s k) ≤ av_e v b i k) : av_M2 v b s = true := by
  have hw := av_w_lt v
  have hz := av_z_lt v
  have Z := av_zne hv
  have wn := av_w_ne hv
  rw [av_M2I]
  have h1 := h (av_z v) 3 (by omega) (by omega)
  have h2 := h (av_w v) v (by omega) (by omega)
  have h3 := h v (av_w v) (by omega) (by omega)
  rw [av_d3] at h1
  unfold av_e at h1 h2 h3
  rw [if_neg (by omega), if_neg Z.1, if_neg Z.2, if_neg (by omega), if_neg (by omega)] at h1
  rw [if_neg (by omega), if_neg (by omega), if_pos rfl, if_pos rfl] at h2
  rw [if_neg wn, if_pos rfl, if_pos rfl] at h3
  have e1 := (av_e_no2 _ (av_d_lt s (av_z v))).mp h1
  have N := av_e_no1 b hb _ (av_d_lt s v) _ (av_d_lt s (av_w v))
  have e2 := N.1.mp h2
  have e3 := N.2.mp h3
  exact ⟨e1, by omega⟩
theorem av_of_M2 {v b s : Nat} (hv : v < 3) (hb : b < 15) (h : av_M2 v b s = true) : ∀ i k, i < 4 → k < 4 → nI (av_d s i) - nI (av_d s k) ≤ av_e v b i k := by
  rw [av_M2I] at h
  have hw := av_d_lt s (av_w v)
  have hx := av_d_lt s v
  have ev : ∀ t, t < 4 → av_d s t = av_val v b (av_d s v) t := by
    intro t ht
    unfold av_val
    by_cases e3 : t = 3
    · have hw := av_w_lt v
      rw [if_neg (by omega), if_neg (by omega), e3]
      rfl
    · by_cases e1 : t = v
      · rw [if_pos e1, e1]
      · rw [if_neg e1]
        by_cases e2 : t = av_w v
        · rw [if_pos e2, e2]
          omega
        · rw [if_neg e2]
          rcases av_3 hv (show t < 3 by omega) with e | e | e
          · exact absurd e e1
          · exact absurd e e2
          · rw [e]
            exact h.1
  intro i k hi hk
  rw [ev i hi, ev k hk]
  exact av_e_ok hv hb hx (by omega) hi hk
theorem av_i164 (a k : Nat) : (16 : Int32) * 2 + 4 * nI a + nI k = nI (16 * 2 + (4 * a + k)) := by
  show nI 16 * nI 2 + nI 4 * nI a + nI k = _
  rw [pk_mul, pk_mul, nI_add, nI_add]
  congr 1
  omega
theorem av_in3 {post : Int32 → Prop} {c l lv wt : Int32} {a1 a2 a3 a4 a5 a6 a8 a9 a10 a11 a14 a15 a16 a17 : Nat → Int32} {a7 a12 a13 : Nat → Int64} {s v b : Nat} (hv : v < 3) (hb : b < 15) (hs : s < 512) (hf : ¬ ((a6 2) >>> ((3 : Int32) &&& 31)) &&& 1 = 0) (h11 : ∀ j, j < 16 → a11 (16 * 2 + j) = (av_T2 v b).getD j 0) (H : post (if av_M2 v b s then 1 else 0)) : wpX_isIn post (c, l, lv, wt, a1, a2, a3, a4, a5, a6, a7, a8, a9, a10, a11, a12, a13, a14, a15, a16, a17) 3 2 (nI s) := by
  unfold wpX_isIn
  refine av_isF1 (i := 2) (by omega) hf (br_f (by decide) (br_f (by decide) (br_t rfl ?_)))
  have N : ∀ i k, i < 4 → k < 4 → ¬ nI (av_d s i) - nI (av_d s k) ≤ av_e v b i k → post 0 := by
    intro i k hi hk z
    have e : av_M2 v b s = false := by
      cases g : av_M2 v b s with
      | false => rfl
      | true => exact absurd (av_of_M2 hv hb g i k hi hk) z
    rw [e] at H
    exact H
  refine pk_loop (σ := Unit) (fun n i _ => wX_isWithinBounds_2 (fun r => (narrow .boolean (.int r) = .int r ∧ (post r))) 2 (nI s) c l lv wt a1 a2 a3 a4 a5 a6 a7 a8 a9 a10 a11 a12 a13 a14 a15 a16 a17 n (nI i)) (fun i _ => ∀ r k, r < i → k < 4 → nI (av_d s r) - nI (av_d s k) ≤ av_e v b r k) 4 0 () (by omega) (fun t k ht => absurd ht (by omega))
    (fun n _ h => pk_le 4 4 (fun _ => And.intro rfl ?_) (fun z => absurd z (by omega)))
    (fun n i _ hi h hw => pk_le 4 i (fun z => absurd z (by omega)) (fun _ => ?_))
  · rw [av_M2_of hv hb (fun i k hi hk => h i k hi hk)] at H
    exact H
  · refine pk_loop (σ := Unit) (fun m k _ => wX_isWithinBounds_10 (fun r => (narrow .boolean (.int r) = .int r ∧ (post r))) (wX_isWithinBounds_2 (fun r => (narrow .boolean (.int r) = .int r ∧ (post r))) 2 (nI s) c l lv wt a1 a2 a3 a4 a5 a6 a7 a8 a9 a10 a11 a12 a13 a14 a15 a16 a17 n) 2 (nI s) (nI i) c l lv wt a1 a2 a3 a4 a5 a6 a7 a8 a9 a10 a11 a12 a13 a14 a15 a16 a17 m (nI k)) (fun k _ => ∀ r, r < k → nI (av_d s i) - nI (av_d s r) ≤ av_e v b i r) 4 0 () (by omega) (fun t ht => absurd ht (by omega))
      (fun m _ g => pk_le 4 4 (fun _ => nm_r (nI_1 i) (hw () ?_)) (fun z => absurd z (by omega)))
      (fun m k _ hk g hw2 => pk_le 4 k (fun z => absurd z (by omega)) (fun _ => av_valueIn hs (by omega) (av_valueIn hs (by omega) (nm_e (And.intro (pk_in (16 * 2 + (4 * i + k)) 336 (by omega) (av_i164 i k)) ?_)))))
    · intro r k hr hk
      by_cases er : r = i
      · rw [er]; exact g k hk
      · exact h r k (by omega) hk
    · have e : a11 ((16 : Int32) * 2 + 4 * nI i + nI k).toNatClampNeg = av_e v b i k := by
        rw [av_clN (16 * 2 + (4 * i + k)) (by omega) (av_i164 i k), h11 _ (by omega)]
        exact av_T2e v hv b hb i hi k hk
      rw [e]
      refine br_c (fun z => nm_r (nI_1 k) (hw2 () ?_)) (fun z => And.intro rfl (N i k hi hk z))
      intro r hr
      by_cases er : r = k
      · rw [er]; exact z
      · exact g r (by omega)
/-! counting -/
theorem av_count {post : Int32 → Prop} {c l lv wt : Int32} {a1 a2 a3 a4 a5 a6 a8 a9 a10 a11 a14 a15 a16 a17 : Nat → Int32} {a7 a12 a13 : Nat → Int64} {x : Int32} (p : Nat → Bool) (hin : ∀ s, s < 512 → ∀ q : Int32 → Prop, q (if p s then 1 else 0) → wpX_isIn q (c, l, lv, wt, a1, a2, a3, a4, a5, a6, a7, a8, a9, a10, a11, a12, a13, a14, a15, a16, a17) x 2 (nI s)) (H : post (nI (av_cnt p 512))) : wpX_countStates post (c, l, lv, wt, a1, a2, a3, a4, a5, a6, a7, a8, a9, a10, a11, a12, a13, a14, a15, a16, a17) x 2 := by
  refine pk_loop (σ := Unit) (fun n i _ => wX_countStates_5 post x 2 c l lv wt a1 a2 a3 a4 a5 a6 a7 a8 a9 a10 a11 a12 a13 a14 a15 a16 a17 n (nI (av_cnt p i)) (nI i)) (fun _ _ => True) 512 0 () (by omega) trivial
    (fun n _ _ => pk_le 512 512 (fun _ => H) (fun z => absurd z (by omega)))
    (fun n i _ hi _ hw => pk_le 512 i (fun z => absurd z (by omega)) (fun _ => hin i hi _ ?_))
  have hw' : wX_countStates_5 post x 2 c l lv wt a1 a2 a3 a4 a5 a6 a7 a8 a9 a10 a11 a12 a13 a14 a15 a16 a17 n (nI (av_cnt p i + (if p i then 1 else 0))) (nI (i + 1)) := hw () trivial
  cases hp : p i with
  | true =>
    rw [hp] at hw'
    exact br_f (by decide) (nm_r (nI_1 _) (nm_r (nI_1 i) hw'))
  | false =>
    rw [hp] at hw'
    exact br_t rfl (nm_r (nI_1 i) hw')
def av_sz (b : Nat) : Nat := if 7 ≤ b then b - 7 else 7 - b
theorem av_cM2 : ∀ v, v < 3 → ∀ b, b < 15 → av_cnt (av_M2 v b) 512 = 8 - av_sz b := by decide +kernel
theorem av_cR : ∀ v, v < 3 → ∀ b, b < 15 → av_cnt (av_R v b) 512 = (8 - av_sz b) * (8 - av_sz b) := by decide +kernel
theorem av_sz_lt {b : Nat} (hb : b < 15) : av_sz b < 8 := by
  unfold av_sz
  split <;> omega
end
section
/-! making, emitting -/
theorem av_init {post : St2 → Prop} (H : post (0, 1, 0, 0, fun _ => 0, fun _ => 0, fun _ => 0, fun _ => 0, fun _ => 0, fun _ => 0, fun _ => 0, fun _ => 0, fun _ => 0, fun _ => 0, fun _ => 0, fun _ => 0, fun _ => 0, fun _ => 0, fun _ => 0, fun _ => 0, fun _ => 0)) : wpX_init post 17 839 (0, 0, 0, 0) :=
  show _ ∧ _ from ⟨by decide, by decide, by decide, by decide, by decide, by decide, by decide, by decide, by decide, by decide, by decide, by decide, by decide, by decide, by decide, by decide, by decide, by decide, by decide, by decide, by decide, by decide, by decide, by decide, by decide, by decide, by decide, by decide, by decide, by decide, by decide, by decide, by decide, by decide, H⟩
theorem av_v8 : ∀ v, v < 3 → (nI v).toInt8.toInt32 = nI v := by decide
theorem av_by8 : ∀ b, b < 15 → (av_by b).toInt8.toInt32 = av_by b ∧ ¬ av_by b < -7 ∧ ¬ 7 < av_by b := by decide +kernel
theorem av_emit1 {post : Int32 → St2 → Prop} {l lv wt : Int32} {a1 a2 a3 a4 a5 a6 a8 a9 a10 a11 a14 a15 a16 a17 : Nat → Int32} {a7 a12 a13 : Nat → Int64} {v : Nat} (hv : v < 3) (H : ∀ a : Nat → Int32, (∀ j, j < 4 → a j = 0) → post 1 (1, l, lv, wt, upd a1 0 2, upd a2 0 (nI v), upd a3 0 0, upd a4 0 0, a, a6, a7, a8, a9, a10, a11, a12, a13, a14, a15, a16, a17)) : wpX_emit post (0, l, lv, wt, a1, a2, a3, a4, a5, a6, a7, a8, a9, a10, a11, a12, a13, a14, a15, a16, a17) 2 (nI v) 0 0 := by
  refine br_t (by decide) (br_f (by decide) (br_f (by decide) (br_f (by decide) (br_t rfl (av_isVariable hv (And.intro rfl (br_f (by decide) ?_)))))))
  exact av_put (i := 0) (by omega) rfl (av_v8 v hv) rfl rfl (fun a ha => nm_r (e' := 1) rfl (H a ha))
theorem av_emit2 {post : Int32 → St2 → Prop} {l lv wt : Int32} {a1 a2 a3 a4 a5 a6 a8 a9 a10 a11 a14 a15 a16 a17 : Nat → Int32} {a7 a12 a13 : Nat → Int64} {v b : Nat} (hv : v < 3) (hb : b < 15) (H : ∀ a : Nat → Int32, (∀ j, j < 4 → a j = 0) → post 2 (2, l, lv, wt, upd a1 1 1, upd a2 1 (nI (av_w v)), upd a3 1 (nI v), upd a4 1 (av_by b), a, a6, a7, a8, a9, a10, a11, a12, a13, a14, a15, a16, a17)) : wpX_emit post (1, l, lv, wt, a1, a2, a3, a4, a5, a6, a7, a8, a9, a10, a11, a12, a13, a14, a15, a16, a17) 1 (nI (av_w v)) (nI v) (av_by b) := by
  have hw := av_w_lt v
  have B := av_by8 b hb
  refine br_t (by decide) (br_f (by decide) (br_f (by decide) (br_f (by decide) (br_f (by decide) (br_f (by decide) (br_f (by decide) (br_f (by decide) ?_)))))))
  refine pk_lt (av_w v) 0 (fun z => absurd z (by omega)) (fun _ => pk_lt 3 (av_w v) (fun z => absurd z (by omega)) (fun _ => pk_lt v 0 (fun z => absurd z (by omega)) (fun _ => pk_lt 3 v (fun z => absurd z (by omega)) (fun _ => br_f B.2.1 (br_f B.2.2 (br_f (by decide) (br_t rfl (pk_le 3 (av_w v) (fun z => absurd z (by omega)) (fun _ => br_f (by decide) ?_)))))))))
  exact av_put (i := 1) (by omega) rfl (av_v8 _ hw) (av_v8 v hv) B.1 (fun a ha => nm_r (e' := 2) rfl (H a ha))
/-! the questions of the law -/
theorem av_q0 {post : Int32 → St2 → Prop} {lv wt : Int32} {a1 a2 a3 a4 a5 a6 a8 a9 a10 a11 a14 a15 a16 a17 : Nat → Int32} {a7 a12 a13 : Nat → Int64} {v b : Nat} (hv : v < 3) (hb : b < 15) (P : av_prog v b a1 a2 a3 a4) (h5 : a5 0 = 0) (h6 : ∀ j, j < 3 → a6 j = 0)
    (H : ∀ (lv wt : Int32) (b6 : Nat → Int32) (b7 b12 b13 : Nat → Int64) (b14 b15 b16 b17 : Nat → Int32), (∀ j, j < 3 → b6 j = 1) → (∀ t, t < 512 → av_mem (fun j => b7 (8 * 2 + j)) t = av_M2 v b t) → post (nI (8 - av_sz b)) (2, 1, lv, wt, a1, a2, a3, a4, upd a5 0 1, b6, b7, a8, a9, a10, a11, b12, b13, b14, b15, b16, b17)) : wpX_count post (2, 1, lv, wt, a1, a2, a3, a4, a5, a6, a7, a8, a9, a10, a11, a12, a13, a14, a15, a16, a17) 0 2 := by
  unfold wpX_count
  refine av_isAsked (w := 0) (by omega) (br_f (by decide) (av_valid P.1 P.2.1 (br_f (by decide) ?_)))
  refine av_an0 hv hb P h5 h6 (fun lv wt b6 b7 b12 b13 b14 b15 b16 b17 h6 h7 => ?_)
  refine av_count (av_M2 v b) (fun s hs q hq => av_in0 hs (by rw [h6 2 (by omega)]; decide) h7 hq) ?_
  rw [av_cM2 v hv b hb]
  exact H lv wt b6 b7 b12 b13 b14 b15 b16 b17 h6 h7
theorem av_q1 {post : Int32 → St2 → Prop} {lv wt : Int32} {a1 a2 a3 a4 a5 a6 a8 a9 a10 a11 a14 a15 a16 a17 : Nat → Int32} {a7 a12 a13 : Nat → Int64} {v b : Nat} (hv : v < 3) (hb : b < 15) (P : av_prog v b a1 a2 a3 a4) (h5 : a5 1 = 0) (h6 : ∀ j, j < 3 → a6 j = 1)
    (H : ∀ (lv wt : Int32) (b6 b8 : Nat → Int32) (b12 b13 : Nat → Int64) (b14 b15 b16 b17 : Nat → Int32), (∀ j, j < 3 → b6 j = 3) → (∀ j, j < 3 → b8 (3 * 2 + j) = av_S2 v b j) → post (nI ((8 - av_sz b) * (8 - av_sz b))) (2, 1, lv, wt, a1, a2, a3, a4, upd a5 1 1, b6, a7, b8, a9, a10, a11, b12, b13, b14, b15, b16, b17)) : wpX_count post (2, 1, lv, wt, a1, a2, a3, a4, a5, a6, a7, a8, a9, a10, a11, a12, a13, a14, a15, a16, a17) 1 2 := by
  unfold wpX_count
  refine av_isAsked (w := 1) (by omega) (br_f (by decide) (av_valid P.1 P.2.1 (br_f (by decide) ?_)))
  refine av_an1 hv hb P h5 h6 (fun lv wt b6 b8 b12 b13 b14 b15 b16 b17 h6 h8 => ?_)
  refine av_count (av_R v b) (fun s hs q hq => av_in1 hv hb hs (by rw [h6 2 (by omega)]; decide) h8 hq) ?_
  rw [av_cR v hv b hb]
  exact H lv wt b6 b8 b12 b13 b14 b15 b16 b17 h6 h8
theorem av_q3 {post : Int32 → St2 → Prop} {lv wt : Int32} {a1 a2 a3 a4 a5 a6 a8 a9 a10 a11 a14 a15 a16 a17 : Nat → Int32} {a7 a12 a13 : Nat → Int64} {v b : Nat} (hv : v < 3) (hb : b < 15) (P : av_prog v b a1 a2 a3 a4) (h5 : a5 3 = 0) (h6 : ∀ j, j < 3 → a6 j = 3)
    (H : ∀ (lv wt : Int32) (b6 b11 : Nat → Int32) (b12 b13 : Nat → Int64) (b14 b15 b16 b17 : Nat → Int32), (∀ j, j < 3 → b6 j = 11) → (∀ j, j < 16 → b11 (16 * 2 + j) = (av_T2 v b).getD j 0) → post (nI (8 - av_sz b)) (2, 1, lv, wt, a1, a2, a3, a4, upd a5 3 1, b6, a7, a8, a9, a10, b11, b12, b13, b14, b15, b16, b17)) : wpX_count post (2, 1, lv, wt, a1, a2, a3, a4, a5, a6, a7, a8, a9, a10, a11, a12, a13, a14, a15, a16, a17) 3 2 := by
  unfold wpX_count
  refine av_isAsked (w := 3) (by omega) (br_f (by decide) (av_valid P.1 P.2.1 (br_f (by decide) ?_)))
  refine av_an3 hv hb P h5 h6 (fun lv wt b6 b11 b12 b13 b14 b15 b16 b17 h6 h11 => ?_)
  refine av_count (av_M2 v b) (fun s hs q hq => av_in3 hv hb hs (by rw [h6 2 (by omega)]; decide) h11 hq) ?_
  rw [av_cM2 v hv b hb]
  exact H lv wt b6 b11 b12 b13 b14 b15 b16 b17 h6 h11
theorem av_b01 (p : Bool) : (if p then (1 : Int32) else 0) = 0 ∨ (if p then (1 : Int32) else 0) = 1 := by
  cases p
  · exact Or.inl rfl
  · exact Or.inr rfl
theorem av_h0 {post : Int32 → St2 → Prop} {lv wt : Int32} {a1 a2 a3 a4 a5 a6 a8 a9 a10 a11 a14 a15 a16 a17 : Nat → Int32} {a7 a12 a13 : Nat → Int64} {v b s : Nat} (hs : s < 512) (P : av_prog v b a1 a2 a3 a4) (h5 : a5 0 = 1) (h6 : a6 2 = 11) (h7 : ∀ t, t < 512 → av_mem (fun j => a7 (8 * 2 + j)) t = av_M2 v b t) (H : post (if av_M2 v b s then 1 else 0) (2, 1, lv, wt, a1, a2, a3, a4, a5, a6, a7, a8, a9, a10, a11, a12, a13, a14, a15, a16, a17)) : wpX_has post (2, 1, lv, wt, a1, a2, a3, a4, a5, a6, a7, a8, a9, a10, a11, a12, a13, a14, a15, a16, a17) 0 2 (nI s) := by
  unfold wpX_has
  refine av_isAsked (w := 0) (by omega) (br_f (by decide) (pk_lt s 0 (fun z => absurd z (by omega)) (fun _ => pk_le 512 s (fun z => absurd z (by omega)) (fun _ => av_valid P.1 P.2.1 (br_f (by decide) ?_)))))
  refine av_anDone (w := 0) (by omega) h5 ?_
  exact av_in0 hs (by rw [h6]; decide) h7 (And.intro (av_bool (av_b01 _)) H)
theorem av_h2 {post : Int32 → St2 → Prop} {lv wt : Int32} {a1 a2 a3 a4 a5 a6 a8 a9 a10 a11 a14 a15 a16 a17 : Nat → Int32} {a7 a12 a13 : Nat → Int64} {v b s : Nat} (hv : v < 3) (hb : b < 15) (hs : s < 512) (P : av_prog v b a1 a2 a3 a4) (h5 : a5 2 = 0) (h6 : ∀ j, j < 3 → a6 j = 11)
    (H : ∀ (lv wt : Int32) (b6 b9 b10 : Nat → Int32) (b12 b13 : Nat → Int64) (b14 b15 b16 b17 : Nat → Int32), (∀ j, j < 3 → b6 j = 15) → (∀ j, j < 3 → b9 (3 * 2 + j) = av_L2 v b j) → (∀ j, j < 3 → b10 (3 * 2 + j) = av_H2 v b j) → post (if av_R v b s then 1 else 0) (2, 1, lv, wt, a1, a2, a3, a4, upd a5 2 1, b6, a7, a8, b9, b10, a11, b12, b13, b14, b15, b16, b17)) : wpX_has post (2, 1, lv, wt, a1, a2, a3, a4, a5, a6, a7, a8, a9, a10, a11, a12, a13, a14, a15, a16, a17) 2 2 (nI s) := by
  unfold wpX_has
  refine av_isAsked (w := 2) (by omega) (br_f (by decide) (pk_lt s 0 (fun z => absurd z (by omega)) (fun _ => pk_le 512 s (fun z => absurd z (by omega)) (fun _ => av_valid P.1 P.2.1 (br_f (by decide) ?_)))))
  refine av_an2 hv hb P h5 h6 (fun lv wt b6 b9 b10 b12 b13 b14 b15 b16 b17 h6 h9 h10 => ?_)
  exact av_in2 hv hb hs (by rw [h6 2 (by omega)]; decide) h9 h10 (And.intro (av_bool (av_b01 _)) (H lv wt b6 b9 b10 b12 b13 b14 b15 b16 b17 h6 h9 h10))
theorem av_sq {n : Nat} (hn : n < 8) : (8 - n) * (8 - n) = 8 - n ↔ n = 7 := by
  rcases (by omega : n = 0 ∨ n = 1 ∨ n = 2 ∨ n = 3 ∨ n = 4 ∨ n = 5 ∨ n = 6 ∨ n = 7) with e | e | e | e | e | e | e | e <;> subst e <;> decide
theorem av_sq_lt {n : Nat} : (8 - n) * (8 - n) < 2 ^ 31 := by
  have h : (8 - n) * (8 - n) ≤ 8 * 8 := Nat.mul_le_mul (by omega) (by omega)
  omega
theorem av_x2 {post : Int32 → St2 → Prop} {lv wt : Int32} {a1 a2 a3 a4 a5 a6 a8 a9 a10 a11 a14 a15 a16 a17 : Nat → Int32} {a7 a12 a13 : Nat → Int64} {v b : Nat} (hv : v < 3) (hb : b < 15) (P : av_prog v b a1 a2 a3 a4) (h5 : a5 2 = 1) (h5' : a5 0 = 1) (h6 : a6 2 = 15) (h7 : ∀ t, t < 512 → av_mem (fun j => a7 (8 * 2 + j)) t = av_M2 v b t) (h9 : ∀ j, j < 3 → a9 (3 * 2 + j) = av_L2 v b j) (h10 : ∀ j, j < 3 → a10 (3 * 2 + j) = av_H2 v b j) (H : post (if av_sz b = 7 then 1 else 0) (2, 1, lv, wt, a1, a2, a3, a4, a5, a6, a7, a8, a9, a10, a11, a12, a13, a14, a15, a16, a17)) : wpX_exact post (2, 1, lv, wt, a1, a2, a3, a4, a5, a6, a7, a8, a9, a10, a11, a12, a13, a14, a15, a16, a17) 2 2 := by
  unfold wpX_exact
  refine av_isAsked (w := 2) (by omega) (br_f (by decide) (av_valid P.1 P.2.1 (br_f (by decide) ?_)))
  refine av_anDone (w := 2) (by omega) h5 ?_
  refine av_anDone (w := 0) (by omega) h5' ?_
  refine av_count (av_R v b) (fun s hs q hq => av_in2 hv hb hs (by rw [h6]; decide) h9 h10 hq) ?_
  refine av_count (av_M2 v b) (fun s hs q hq => av_in0 hs (by rw [h6]; decide) h7 hq) ?_
  rw [av_cM2 v hv b hb, av_cR v hv b hb]
  have hz := av_sz_lt hb
  refine ek_if (Iff.trans (nI_eq av_sq_lt (by omega)) (av_sq hz)) (fun z => ?_) (fun z => ?_)
  · rw [if_pos z] at H
    exact H
  · rw [if_neg z] at H
    exact H
theorem av_lov_t : ∀ b, b < 15 → av_lov b < 8 ∧ av_lov b ≤ av_hiv b ∧ (-100 ≤ (0 : Int32) - nI (av_lov b)) ∧ -((0 : Int32) - nI (av_lov b)) = nI (av_lov b) := by decide +kernel
theorem av_lo_v {v b : Nat} (hv : v < 3) : av_lo v b v = av_lov b ∧ av_hi v b v = av_hiv b := by
  unfold av_lo av_hi
  rw [if_neg (av_w_ne hv), if_pos rfl, if_neg (av_w_ne hv), if_pos rfl]
  exact ⟨rfl, rfl⟩
theorem av_lowest {post : Int32 → St2 → Prop} {lv wt : Int32} {a1 a2 a3 a4 a5 a6 a8 a9 a10 a11 a14 a15 a16 a17 : Nat → Int32} {a7 a12 a13 : Nat → Int64} {v b : Nat} (hv : v < 3) (hb : b < 15) (P : av_prog v b a1 a2 a3 a4) (h5 : a5 1 = 1) (h6 : a6 2 = 15) (h8 : ∀ j, j < 3 → a8 (3 * 2 + j) = av_S2 v b j) (H : post (nI (av_lov b)) (2, 1, lv, wt, a1, a2, a3, a4, a5, a6, a7, a8, a9, a10, a11, a12, a13, a14, a15, a16, a17)) : wpX_lowest post (2, 1, lv, wt, a1, a2, a3, a4, a5, a6, a7, a8, a9, a10, a11, a12, a13, a14, a15, a16, a17) 1 2 (nI v) := by
  have Lt := av_lov_t b hb
  have Lv := av_lo_v (b := b) hv
  unfold wpX_lowest
  refine av_isAsked (w := 1) (by omega) (br_f (by decide) (av_isVariable hv (br_f (by decide) ?_)))
  unfold wpX_mostOf
  refine av_valid P.1 P.2.1 (br_f (by decide) ?_)
  refine av_anDone (w := 1) (by omega) h5 ?_
  refine av_isF1 (i := 2) (by omega) (by rw [h6]; decide) (br_f (by decide) (pk_eq 3 v (fun z => absurd z (by omega)) (fun _ => br_t rfl (br_t rfl (pk_eq v 3 (fun z => absurd z (by omega)) (fun _ => ?_))))))
  have e : a8 ((3 : Int32) * 2 + nI v).toNatClampNeg = av_S2 v b v := by
    rw [av_clN (3 * 2 + v) (by omega) (av_i32 v)]
    exact h8 v hv
  have bt := av_S2b v hv b hb v hv
  rw [Lv.1, Lv.2] at bt
  refine pk_loop (σ := Unit) (fun n i _ => wX_lowestIn_9 _ 2 (nI v) 2 1 lv wt a1 a2 a3 a4 a5 a6 a7 a8 a9 a10 a11 a12 a13 a14 a15 a16 a17 n (nI i)) (fun _ _ => True) (av_lov b) 0 () (by omega) trivial
    (fun n _ _ => And.intro (pk_in (3 * 2 + v) 63 (by omega) (av_i32 v)) ?_)
    (fun n i _ hi _ hw => And.intro (pk_in (3 * 2 + v) 63 (by omega) (av_i32 v)) ?_)
  · rw [e]
    refine br_f (fun z => (bt _ Lt.1).mp z ⟨Nat.le_refl _, Lt.2.1⟩) (br_t Lt.2.2.1 ?_)
    rw [Lt.2.2.2]
    exact H
  · rw [e]
    exact br_t ((bt i (by omega)).mpr (fun z => absurd z.1 (by omega))) (nm_r (nI_1 i) (hw () trivial))
theorem av_most {post : Int32 → St2 → Prop} {lv wt : Int32} {a1 a2 a3 a4 a5 a6 a8 a9 a10 a11 a14 a15 a16 a17 : Nat → Int32} {a7 a12 a13 : Nat → Int64} {v b : Nat} (hv : v < 3) (hb : b < 15) (P : av_prog v b a1 a2 a3 a4) (h5 : a5 3 = 1) (h6 : a6 2 = 15) (h11 : ∀ j, j < 16 → a11 (16 * 2 + j) = (av_T2 v b).getD j 0) (H : post (av_by b) (2, 1, lv, wt, a1, a2, a3, a4, a5, a6, a7, a8, a9, a10, a11, a12, a13, a14, a15, a16, a17)) : wpX_most post (2, 1, lv, wt, a1, a2, a3, a4, a5, a6, a7, a8, a9, a10, a11, a12, a13, a14, a15, a16, a17) 3 2 (nI (4 * av_w v + v)) := by
  have hw := av_w_lt v
  have e1 : nI (4 * av_w v + v) / 4 = nI (av_w v) := by
    show nI _ / nI 4 = _
    rw [pk_div (by omega) (by omega) (by omega), show (4 * av_w v + v) / 4 = av_w v by omega]
  have e2 : nI (4 * av_w v + v) - nI (av_w v) * 4 = nI v := by
    show _ - nI (av_w v) * nI 4 = _
    rw [pk_mul, pk_sub (by omega), show 4 * av_w v + v - av_w v * 4 = v by omega]
  unfold wpX_most
  refine av_isAsked (w := 3) (by omega) (br_f (by decide) (pk_lt (4 * av_w v + v) 0 (fun z => absurd z (by omega)) (fun _ => pk_le (4 * av_w v + v) 15 (fun _ => And.intro (by decide) (And.intro (by decide) ?_)) (fun z => absurd z (by omega)))))
  rw [e1, e2]
  unfold wpX_mostOf
  refine av_valid P.1 P.2.1 (br_f (by decide) ?_)
  refine av_anDone (w := 3) (by omega) h5 ?_
  refine av_isF1 (i := 2) (by omega) (by rw [h6]; decide) (br_f (by decide) (pk_eq (av_w v) v (fun z => absurd z.symm (av_w_ne hv)) (fun _ => br_f (by decide) (br_f (by decide) (br_t rfl (And.intro (pk_in (16 * 2 + (4 * av_w v + v)) 336 (by omega) (av_i164 (av_w v) v)) ?_))))))
  have e : a11 ((16 : Int32) * 2 + 4 * nI (av_w v) + nI v).toNatClampNeg = av_by b := by
    rw [av_clN (16 * 2 + (4 * av_w v + v)) (by omega) (av_i164 (av_w v) v), h11 _ (by omega), av_T2e v hv b hb (av_w v) (by omega) v (by omega)]
    unfold av_e
    have wn := av_w_ne hv
    rw [if_neg (by omega), if_neg (by omega), if_pos rfl, if_pos rfl]
  rw [e]
  exact H
end
section
/-! the law -/
theorem av_315 {post : Int32 → St0 → Prop} {mc ms kc ks : Nat} {z : Int32} {lv wt : Int32} {a1 a2 a3 a4 a5 a6 a8 a9 a10 a11 a14 a15 a16 a17 : Nat → Int32} {a7 a12 a13 : Nat → Int64} {v b : Nat} (hv : v < 3) (hb : b < 15) (P : av_prog v b a1 a2 a3 a4) (h51 : a5 1 = 1) (h53 : a5 3 = 1) (h6 : a6 2 = 15) (h8 : ∀ j, j < 3 → a8 (3 * 2 + j) = av_S2 v b j) (h11 : ∀ j, j < 16 → a11 (16 * 2 + j) = (av_T2 v b).getD j 0) (Hp : post 1 ()) : wL_lawOf_315 post mc ms (nI v) (nI (av_w v)) (av_by b) (nI (av_lov b)) z z kc ks 2 1 lv wt a1 a2 a3 a4 a5 a6 a7 a8 a9 a10 a11 a12 a13 a14 a15 a16 a17 := by
  refine br_t rfl (av_lowest hv hb P h51 h6 h8 (br_t rfl ?_))
  rw [av_i4 (av_w v) v]
  exact av_most hv hb P h53 h6 h11 (br_t rfl Hp)
theorem av_291 {post : Int32 → St0 → Prop} {mc ms kc ks : Nat} {z : Int32} {lv wt : Int32} {a1 a2 a3 a4 a5 a6 a8 a9 a10 a11 a14 a15 a16 a17 : Nat → Int32} {a7 a12 a13 : Nat → Int64} {v b : Nat} (hv : v < 3) (hb : b < 15) (P : av_prog v b a1 a2 a3 a4) (h50 : a5 0 = 1) (h51 : a5 1 = 1) (h52 : a5 2 = 1) (h53 : a5 3 = 1) (h6 : a6 2 = 15) (h7 : ∀ t, t < 512 → av_mem (fun j => a7 (8 * 2 + j)) t = av_M2 v b t) (h8 : ∀ j, j < 3 → a8 (3 * 2 + j) = av_S2 v b j) (h9 : ∀ j, j < 3 → a9 (3 * 2 + j) = av_L2 v b j) (h10 : ∀ j, j < 3 → a10 (3 * 2 + j) = av_H2 v b j) (h11 : ∀ j, j < 16 → a11 (16 * 2 + j) = (av_T2 v b).getD j 0) (Hp : post 1 ()) : wL_lawOf_291 post mc ms (nI v) (nI (av_w v)) (av_by b) (nI (av_sz b)) (nI (av_lov b)) z z kc ks 2 1 lv wt a1 a2 a3 a4 a5 a6 a7 a8 a9 a10 a11 a12 a13 a14 a15 a16 a17 := by
  have hz := av_sz_lt hb
  refine br_t rfl (av_x2 hv hb P h52 h50 h6 h7 h9 h10 (pk_eq (av_sz b) 7 (fun e => ?_) (fun e => ?_)))
  · rw [if_pos e]
    exact av_315 hv hb P h51 h53 h6 h8 h11 Hp
  · rw [if_neg e]
    exact av_315 hv hb P h51 h53 h6 h8 h11 Hp
theorem av_lim1 : ∀ b, b < 15 → (nI (av_lov b) + 8) - nI (av_sz b) = nI (av_hiv b + 1) ∧ nI (av_lov b) + av_by b = nI (av_low b) ∧ (nI (av_low b) + 8) - nI (av_sz b) = nI (av_hiw b + 1) ∧ av_lov b < 8 ∧ av_low b < 8 ∧ av_hiv b < 8 ∧ av_hiw b < 8 := by decide +kernel
theorem av_RI {v b s : Nat} (hv : v < 3) : av_R v b s = true ↔ av_d s (av_z v) = 0 ∧ av_lov b ≤ av_d s v ∧ av_d s v ≤ av_hiv b ∧ av_low b ≤ av_d s (av_w v) ∧ av_d s (av_w v) ≤ av_hiw b := by
  have hw := av_w_lt v
  have hz := av_z_lt v
  have Z := av_zne hv
  have Lv := av_lo_v (b := b) hv
  have Lw : av_lo v b (av_w v) = av_low b ∧ av_hi v b (av_w v) = av_hiw b := by
    unfold av_lo av_hi
    rw [if_pos rfl, if_pos rfl]
    exact ⟨rfl, rfl⟩
  have Lz : av_lo v b (av_z v) = 0 ∧ av_hi v b (av_z v) = 0 := by
    unfold av_lo av_hi
    rw [if_neg Z.2, if_neg Z.1, if_neg Z.2, if_neg Z.1]
    exact ⟨rfl, rfl⟩
  constructor
  · intro h
    have g : ∀ t, t < 3 → av_rg v b s t = true := by
      intro t ht
      cases e : av_rg v b s t with
      | true => rfl
      | false =>
        rw [av_R_not ht (by rw [e]; decide)] at h
        exact absurd h (by decide)
    have g1 := av_rgI.mp (g v hv)
    have g2 := av_rgI.mp (g _ hw)
    have g3 := av_rgI.mp (g _ hz)
    rw [Lv.1, Lv.2] at g1
    rw [Lw.1, Lw.2] at g2
    rw [Lz.1, Lz.2] at g3
    exact ⟨by omega, g1.1, g1.2, g2.1, g2.2⟩
  · rintro ⟨k1, k2, k3, k4, k5⟩
    refine av_R_all (fun t ht => av_rgI.mpr ?_)
    rcases av_3 hv ht with e | e | e
    · rw [e, Lv.1, Lv.2]
      exact ⟨k2, k3⟩
    · rw [e, Lw.1, Lw.2]
      exact ⟨k4, k5⟩
    · rw [e, Lz.1, Lz.2]
      omega
theorem av_221 {post : Int32 → St0 → Prop} {mc ms kc ks : Nat} {z : Int32} {lv wt : Int32} {a1 a2 a3 a4 a5 a6 a8 a9 a10 a11 a14 a15 a16 a17 : Nat → Int32} {a7 a12 a13 : Nat → Int64} {v b s : Nat} (hv : v < 3) (hb : b < 15) (hs : s < 512) (P : av_prog v b a1 a2 a3 a4) (h50 : a5 0 = 1) (h51 : a5 1 = 1) (h52 : a5 2 = 0) (h53 : a5 3 = 1) (h6 : ∀ j, j < 3 → a6 j = 11) (h7 : ∀ t, t < 512 → av_mem (fun j => a7 (8 * 2 + j)) t = av_M2 v b t) (h8 : ∀ j, j < 3 → a8 (3 * 2 + j) = av_S2 v b j) (h11 : ∀ j, j < 16 → a11 (16 * 2 + j) = (av_T2 v b).getD j 0) (Hp : post 1 ()) : wL_lawOf_221 post mc ms (nI v) (nI (av_w v)) (av_by b) (nI (av_sz b)) (nI (av_lov b)) (nI s) (nI (av_d s v)) (nI (av_d s (av_w v))) (nI (av_d s (av_z v))) z z kc ks 2 1 lv wt a1 a2 a3 a4 a5 a6 a7 a8 a9 a10 a11 a12 a13 a14 a15 a16 a17 := by
  refine br_t rfl (av_h2 hv hb hs P h52 h6 (fun lv wt b6 b9 b10 b12 b13 b14 b15 b16 b17 g6 g9 g10 => ?_))
  have K : ∀ z : Int32, wL_lawOf_291 post mc ms (nI v) (nI (av_w v)) (av_by b) (nI (av_sz b)) (nI (av_lov b)) z z kc ks 2 1 lv wt a1 a2 a3 a4 (upd a5 2 1) b6 a7 a8 b9 b10 a11 b12 b13 b14 b15 b16 b17 := fun z =>
    av_291 hv hb P (by rw [pk_un (by decide)]; exact h50) (by rw [pk_un (by decide)]; exact h51) pk_us (by rw [pk_un (by decide)]; exact h53) (g6 2 (by omega)) h7 h8 g9 g10 h11 Hp
  have L := av_lim1 b hb
  have hx := av_d_lt s v
  have hy := av_d_lt s (av_w v)
  have hq := av_d_lt s (av_z v)
  have R := av_RI (b := b) (s := s) hv
  have N : ¬ av_R v b s = true → wL_lawOf_290 post mc ms (nI v) (nI (av_w v)) (av_by b) (nI (av_sz b)) (nI (av_lov b)) (if av_R v b s then 1 else 0) kc ks 2 1 lv wt a1 a2 a3 a4 (upd a5 2 1) b6 a7 a8 b9 b10 a11 b12 b13 b14 b15 b16 b17 := by
    intro h
    rw [if_neg h]
    exact K 0
  show (_ → _) ∧ (_ → _)
  rw [L.2.1, L.1, L.2.2.1]
  refine pk_eq (av_d s (av_z v)) 0 (fun e1 => pk_lt (av_d s v) (av_lov b) (fun e2 => N (fun g => absurd (R.mp g) (by omega))) (fun e2 => pk_le (av_hiv b + 1) (av_d s v) (fun e3 => N (fun g => absurd (R.mp g) (by omega))) (fun e3 => pk_lt (av_d s (av_w v)) (av_low b) (fun e4 => N (fun g => absurd (R.mp g) (by omega))) (fun e4 => pk_le (av_hiw b + 1) (av_d s (av_w v)) (fun e5 => N (fun g => absurd (R.mp g) (by omega))) (fun e5 => ?_))))) (fun e1 => N (fun g => absurd (R.mp g) (by omega)))
  rw [if_pos (R.mpr (by omega))]
  exact K 1
theorem av_zi : ∀ v, v < 3 → (nI v + 2) - (nI v + 2) / 3 * 3 = nI (av_z v) ∧ (nI v + 1) - (nI v + 1) / 3 * 3 = nI (av_w v) := by decide +kernel
theorem av_8s : ∀ b, b < 15 → (8 : Int32) - nI (av_sz b) = nI (8 - av_sz b) ∧ nI (8 - av_sz b) * nI (8 - av_sz b) = nI ((8 - av_sz b) * (8 - av_sz b)) := by decide +kernel
theorem av_xy : ∀ b, b < 15 → ∀ x, x < 8 → ∀ y, y < 8 → (nI y = nI x + av_by b ↔ y + 7 = x + b) := by decide +kernel
theorem av_47 {post : Int32 → St0 → Prop} {v b : Nat} {x2 : Int32} (hv : v < 3) (hb : b < 15) (Hp : post 1 ()) : wL_lawOf_47 post 326 5200 x2 (nI v) (nI (av_w v)) (av_by b) (nI (av_sz b)) (nI (av_lov b)) 0 0 := by
  obtain ⟨s, hs, es⟩ := pk_andE x2 (m := 511) 9 (by decide)
  have hs' : s < 512 := hs
  have S8 := av_8s b hb
  unfold wL_lawOf_47
  refine nm_r es (nm_r (av_dig hs' hv) (nm_r (av_dig hs' (av_w_lt v)) (And.intro (by decide) (nm_r (e' := nI (av_d s (av_z v))) (by rw [(av_zi v hv).1]; exact av_dig hs' (av_z_lt v)) (And.intro (by decide) (And.intro (by decide) ⟨17, 839, by decide, by decide, ?_⟩))))))
  refine av_init ?_
  refine av_emit1 hv (fun a5 h5 => br_t rfl ?_)
  refine av_emit2 hv hb (fun c5 h5' => br_t rfl ?_)
  have P : av_prog v b (upd (upd (fun _ => 0) 0 2) 1 1) (upd (upd (fun _ => 0) 0 (nI v)) 1 (nI (av_w v))) (upd (upd (fun _ => 0) 0 0) 1 (nI v)) (upd (upd (fun _ => 0) 0 0) 1 (av_by b)) := ⟨rfl, rfl, rfl, rfl, rfl, rfl⟩
  rw [S8.1, S8.2]
  refine av_q0 hv hb P (h5' 0 (by omega)) (fun j hj => rfl) (fun lv wt b6 b7 b12 b13 b14 b15 b16 b17 g6 g7 => br_t rfl ?_)
  refine av_q1 hv hb P (by rw [pk_un (by decide)]; exact h5' 1 (by omega)) g6 (fun lv wt b6 b8 b12 b13 b14 b15 b16 b17 g6 g8 => br_t rfl ?_)
  refine av_q3 hv hb P (by rw [pk_un (by decide), pk_un (by decide)]; exact h5' 3 (by omega)) g6 (fun lv wt b6 b11 b12 b13 b14 b15 b16 b17 g6 g11 => br_t rfl ?_)
  refine av_h0 hs' P (by rw [pk_un (by decide), pk_un (by decide), pk_us]) (g6 2 (by omega)) g7 ?_
  have K : ∀ z : Int32, wL_lawOf_221 post 326 5200 (nI v) (nI (av_w v)) (av_by b) (nI (av_sz b)) (nI (av_lov b)) (nI s) (nI (av_d s v)) (nI (av_d s (av_w v))) (nI (av_d s (av_z v))) z z (0 + 1 + 17) (0 + 21 + 839) 2 1 lv wt (upd (upd (fun _ => 0) 0 2) 1 1) (upd (upd (fun _ => 0) 0 (nI v)) 1 (nI (av_w v))) (upd (upd (fun _ => 0) 0 0) 1 (nI v)) (upd (upd (fun _ => 0) 0 0) 1 (av_by b)) (upd (upd (upd c5 0 1) 1 1) 3 1) b6 b7 b8 (fun _ => 0) (fun _ => 0) b11 b12 b13 b14 b15 b16 b17 := fun z =>
    av_221 hv hb hs' P (by rw [pk_un (by decide), pk_un (by decide), pk_us]) (by rw [pk_un (by decide), pk_us]) (by rw [pk_un (by decide), pk_un (by decide), pk_un (by decide)]; exact h5' 2 (by omega)) pk_us g6 g7 g8 g11 Hp
  have hx := av_d_lt s v
  have hy := av_d_lt s (av_w v)
  have hq := av_d_lt s (av_z v)
  have M := av_M2I (v := v) (b := b) (s := s)
  refine pk_eq (av_d s (av_z v)) 0 (fun e1 => ek_if (av_xy b hb _ hx _ hy) (fun e2 => ?_) (fun e2 => ?_)) (fun e1 => ?_)
  · rw [if_pos (M.mpr ⟨e1, e2⟩)]
    exact K 1
  · rw [if_neg (fun g => e2 (M.mp g).2)]
    exact K 0
  · rw [if_neg (fun g => e1 (M.mp g).1)]
    exact K 0
theorem av_sgn : ∀ b, b < 15 → (7 ≤ b → 0 ≤ av_by b ∧ av_by b = nI (av_sz b) ∧ av_lov b = 0) ∧ (b < 7 → ¬ 0 ≤ av_by b ∧ -(av_by b) = nI (av_sz b) ∧ av_lov b = av_sz b) := by decide +kernel
theorem av_34 {post : Int32 → St0 → Prop} {v b : Nat} {x2 : Int32} (hv : v < 3) (hb : b < 15) (Hp : post 1 ()) : wL_lawOf_34 post 326 5200 x2 (nI v) (nI (av_w v)) (av_by b) (nI (av_sz b)) 0 0 := by
  have T := av_47 (post := post) (x2 := x2) hv hb Hp
  have G := av_sgn b hb
  rcases Nat.lt_or_ge b 7 with z | z
  · have g := G.2 z
    rw [g.2.2] at T
    exact br_f g.1 T
  · have g := G.1 z
    rw [g.2.2] at T
    exact br_t g.1 T
/-- the remainder by 8: from -7 to 7 -/
theorem av_rem8 (x : Int32) : ∃ b : Nat, b < 15 ∧ x - x / 8 * 8 = av_by b := by
  by_cases h : x < 0
  · have hn : ∃ j : Nat, j ≤ 2 ^ 31 ∧ x.toInt = -(j : Int) := by
      have h1 : x.toInt < 0 := Int32.lt_iff_toInt_lt.mp h
      have h2 : -(2 ^ 31) ≤ x.toInt := Int32.le_toInt x
      exact ⟨(-x.toInt).toNat, by omega, by omega⟩
    obtain ⟨j, hj, ej⟩ := hn
    refine ⟨7 - j % 8, by omega, ?_⟩
    apply Int32.toInt_inj.mp
    have hd : (x / 8).toInt = -((j / 8 : Nat) : Int) := by
      rw [Int32.toInt_div_of_ne_right x 8 (by decide), ej]
      show (-(j : Int)).tdiv 8 = _
      rw [Int.neg_tdiv]
      rfl
    rw [Int32.toInt_sub, Int32.toInt_mul, hd, ej]
    show _ = (nI (7 - j % 8) - nI 7).toInt
    rw [pk_sub_toInt (by omega) (by omega)]
    show (-(j : Int) - (-((j / 8 : Nat) : Int) * 8).bmod (2 ^ 32)).bmod (2 ^ 32) = _
    rw [Int.bmod_eq_of_le (n := -((j / 8 : Nat) : Int) * 8) (by omega) (by omega), Int.bmod_eq_of_le (by omega) (by omega)]
    omega
  · obtain ⟨j, hj, ej⟩ := nI_of h
    refine ⟨7 + j % 8, by omega, ?_⟩
    rw [ej]
    show nI j - nI j / nI 8 * nI 8 = nI (7 + j % 8) - nI 7
    rw [pk_rem hj (by omega) (by omega), pk_sub (by omega), Nat.add_sub_cancel_left]
theorem av_lawOf {post : Int32 → St0 → Prop} {p0 p1 p2 : Int32} (Hp : post 1 ()) : wpL_lawOf post 326 5200 () p0 p1 p2 := by
  obtain ⟨k, hk, ek⟩ := pk_andE p0 (m := 255) 8 (by decide)
  obtain ⟨b, hb, eb⟩ := av_rem8 p1
  have hk' : k < 256 := hk
  have hv : k % 3 < 3 := Nat.mod_lt _ (by omega)
  have G := av_sgn b hb
  unfold wpL_lawOf
  refine And.intro (by decide) (nm_r (e' := nI (k % 3)) (by rw [ek]; exact pk_rem (d := 3) (by omega) (by omega) (by omega)) (And.intro (by decide) (nm_r (av_zi _ hv).2 (And.intro (by decide) (nm_r eb ?_)))))
  have T := av_34 (post := post) (x2 := p2) hv hb Hp
  rcases Nat.lt_or_ge b 7 with z | z
  · have g := G.2 z
    rw [← g.2.1] at T
    exact br_f g.1 T
  · have g := G.1 z
    refine br_t g.1 ?_
    rw [← g.2.1] at T
    exact T
theorem av_cell {post : Int32 → Prop} {L : Nat} {xs : Nat → Int32} {k : Nat} (hL : L ≤ 3) (hk : k < 3) (H : ∀ r, post r) : wpL_cellAt post L xs () (nI k) :=
  pk_le L k (fun _ => H 0) (fun z => And.intro (pk_in k L z) (H _))
theorem i_vc (xs : Nat → Int32) (L : Nat) (hL : L ≤ 3) : wpL_law (fun r => r = 1) L xs := by
  unfold wpL_law
  refine av_cell (k := 0) hL (by omega) (fun r1 => ?_)
  refine av_cell (k := 1) hL (by omega) (fun r2 => ?_)
  refine av_cell (k := 2) hL (by omega) (fun r3 => ?_)
  exact ⟨326, 5200, by decide, by decide, av_lawOf rfl⟩
end
