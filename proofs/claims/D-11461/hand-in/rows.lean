section
/-! bits of an int, masks as naturals -/
def cd_b (x : Int32) (i : Nat) : Bool := x.toBitVec.getLsbD i
theorem cd_ext {x y : Int32} (h : ∀ i, i < 32 → cd_b x i = cd_b y i) : x = y := Int32.toBitVec_inj.mp (BitVec.eq_of_getLsbD_eq (fun i hi => h i hi))
theorem cd_b_or (x y : Int32) (i : Nat) : cd_b (x ||| y) i = (cd_b x i || cd_b y i) := by unfold cd_b; rw [Int32.toBitVec_or, BitVec.getLsbD_or]
theorem cd_b_and (x y : Int32) (i : Nat) : cd_b (x &&& y) i = (cd_b x i && cd_b y i) := by unfold cd_b; rw [Int32.toBitVec_and, BitVec.getLsbD_and]
theorem cd_b_xor (x y : Int32) (i : Nat) : cd_b (x ^^^ y) i = (cd_b x i ^^ cd_b y i) := by unfold cd_b; rw [Int32.toBitVec_xor, BitVec.getLsbD_xor]
theorem cd_b_m1 : ∀ i, i < 32 → cd_b (-1) i = true := by decide +kernel
theorem cd_b_s : ∀ n, n < 32 → ((nI n &&& 31).toBitVec.smod 32).toNat = n := by decide +kernel
theorem cd_b_sshr (n : Nat) (hn : n < 32) (x : Int32) {i : Nat} (hi : i < 32) : cd_b (x >>> (nI n &&& 31)) i = if n + i < 32 then cd_b x (n + i) else cd_b x 31 := by
  unfold cd_b
  rw [Int32.toBitVec_shiftRight]
  show (x.toBitVec.sshiftRight ((nI n &&& 31).toBitVec.smod 32).toNat).getLsbD i = _
  rw [cd_b_s n hn, BitVec.getLsbD_sshiftRight, BitVec.msb_eq_getLsbD_last]
  simp [hi]
theorem cd_b_nI (n : Nat) {i : Nat} (hi : i < 32) : cd_b (nI n) i = n.testBit i := by
  show (BitVec.ofNat 32 n).getLsbD i = _
  rw [BitVec.getLsbD_ofNat]
  simp [hi]
theorem cd_1f {i : Nat} (h : ¬ i = 0) : (1 : Nat).testBit i = false := by
  cases e : (1 : Nat).testBit i
  · rfl
  · exact absurd (Nat.testBit_one_eq_true_iff_self_eq_zero.mp e) h
/-- one bit of an int, as 0 or 1 -/
theorem cd_bit (x : Int32) (k : Nat) (hk : k < 32) : (x >>> (nI k &&& 31)) &&& 1 = nI (cd_b x k).toNat := by
  apply cd_ext
  intro i hi
  rw [cd_b_and, cd_b_sshr k hk x hi, cd_b_nI _ hi, show cd_b 1 i = (1 : Nat).testBit i from cd_b_nI 1 hi]
  by_cases h : i = 0
  · subst h
    rw [if_pos (by omega), Nat.add_zero]
    cases cd_b x k <;> rfl
  · rw [cd_1f h, Bool.and_false]
    cases cd_b x k
    · exact (Nat.zero_testBit i).symm
    · exact (cd_1f h).symm
theorem cd_nor (a b : Nat) : nI a ||| nI b = nI (a ||| b) := by
  apply cd_ext
  intro i hi
  rw [cd_b_or, cd_b_nI _ hi, cd_b_nI _ hi, cd_b_nI _ hi, Nat.testBit_or]
theorem cd_nand (a b : Nat) : nI a &&& nI b = nI (a &&& b) := by
  apply cd_ext
  intro i hi
  rw [cd_b_and, cd_b_nI _ hi, cd_b_nI _ hi, cd_b_nI _ hi, Nat.testBit_and]
theorem cd_pow : ∀ k, k < 31 → (1 : Int32) <<< (nI k &&& 31) = nI (2 ^ k) := by decide +kernel
theorem cd_and0 {s j : Nat} (hs : s < 2 ^ 31) : nI s &&& nI (2 ^ j) = 0 ↔ s.testBit j = false := by
  rw [cd_nand, ← nI_0, nI_eq (Nat.lt_of_le_of_lt Nat.and_le_left hs) (by omega)]
  constructor
  · intro h
    have h2 := congrArg (fun n => n.testBit j) h
    simpa [Nat.testBit_and, Nat.testBit_two_pow] using h2
  · intro h
    apply Nat.eq_of_testBit_eq
    intro i
    rw [Nat.testBit_and, Nat.testBit_two_pow, Nat.zero_testBit]
    by_cases e : j = i
    · subst e
      simp [h]
    · simp [e]
theorem cd_nar : ∀ j, j < 128 → (nI j).toInt8.toInt32 = nI j := by decide +kernel
theorem cd_fill {f s : Nat → Int32} {i k : Nat} {x : Int32} (hk : k = i) (h : ∀ j, j < i → s j = f j) (hx : x = f i) : ∀ j, j < i + 1 → upd s k x j = f j := by
  intro j hj
  rw [hk]
  by_cases e : j = i
  · rw [e, pk_us, hx]
  · rw [pk_un e]
    exact h j (by omega)
theorem cd_nle0 : ¬ nI 1 = 0 := by decide
/-- four bits of an int, cut out -/
theorem cd_row (R : Int32) {k : Nat} (hk : k < 4) : ∃ j, j < 16 ∧ (R >>> (((4 : Int32) * nI k) &&& 31)) &&& 15 = nI j ∧ ∀ c, c < 4 → j.testBit c = cd_b R (4 * k + c) := by
  have e : (4 : Int32) * nI k = nI (4 * k) := pk_mul 4 k
  rw [e]
  obtain ⟨j, hj, ej⟩ := pk_andE (R >>> (nI (4 * k) &&& 31)) (m := 15) 4 (by decide)
  refine ⟨j, hj, ej, fun c hc => ?_⟩
  have h := congrArg (fun z => cd_b z c) ej
  rw [cd_b_and, cd_b_sshr (4 * k) (by omega) R (by omega), cd_b_nI _ (by omega), if_pos (by omega)] at h
  rw [← h, (by decide +kernel : ∀ c, c < 4 → cd_b 15 c = true) c hc, Bool.and_true]
end
section
/-! the law's own closure: with -/
/-- closed: with a thread goes all that lies above it (warps 0..3, wefts 8..11; b (4 r + c): warp c above weft r) -/
def cd_cl (b : Nat → Bool) (S : Nat → Prop) : Prop := ∀ c r, c < 4 → r < 4 → (b (4 * r + c) = true → S (8 + r) → S c) ∧ (b (4 * r + c) = false → S c → S (8 + r))
def cd_Re (b : Nat → Bool) (t i : Nat) : Prop := ∀ S : Nat → Prop, cd_cl b S → S t → S i
def cd_th (t : Nat) : Prop := t < 4 ∨ (8 ≤ t ∧ t < 12)
theorem cd_re_self {b : Nat → Bool} {t : Nat} : cd_Re b t t := fun _ _ h => h
theorem cd_re_trans {b : Nat → Bool} {t u v : Nat} (h1 : cd_Re b t u) (h2 : cd_Re b u v) : cd_Re b t v := fun S hS ht => h2 S hS (h1 S hS ht)
theorem cd_re_cl {b : Nat → Bool} {t : Nat} : cd_cl b (cd_Re b t) := fun c r hc hr =>
  ⟨fun hb h S hS ht => (hS c r hc hr).1 hb (h S hS ht), fun hb h S hS ht => (hS c r hc hr).2 hb (h S hS ht)⟩
theorem cd_th_cl {b : Nat → Bool} : cd_cl b cd_th := fun c r hc hr => ⟨fun _ _ => Or.inl hc, fun _ _ => Or.inr ⟨by omega, by omega⟩⟩
theorem cd_re_th {b : Nat → Bool} {t i : Nat} (ht : cd_th t) (h : cd_Re b t i) : cd_th i := h cd_th cd_th_cl ht
/-- one turn of the inner loop -/
def cd_st (b : Nat → Bool) (k n : Nat) : Nat := if b k = true then (if n.testBit (8 + k / 4) = true then n ||| 2 ^ (k % 4) else n) else (if n.testBit (k % 4) = true then n ||| 2 ^ (8 + k / 4) else n)
theorem cd_st_le (b : Nat → Bool) (k n : Nat) : n ≤ cd_st b k n := by
  unfold cd_st
  split <;> split <;> first | exact Nat.left_le_or | exact Nat.le_refl _
theorem cd_st_mono (b : Nat → Bool) (k n i : Nat) (h : n.testBit i = true) : (cd_st b k n).testBit i = true := by
  unfold cd_st
  split <;> split <;> first | exact h | (rw [Nat.testBit_or, h, Bool.true_or])
theorem cd_st_lt (b : Nat → Bool) {k n : Nat} (hk : k < 16) (hn : n < 4096) : cd_st b k n < 4096 := by
  have h1 : n < 2 ^ 12 := hn
  have p1 : 2 ^ (k % 4) < 2 ^ 12 := Nat.pow_lt_pow_right (by omega) (by omega)
  have p2 : 2 ^ (8 + k / 4) < 2 ^ 12 := Nat.pow_lt_pow_right (by omega) (by omega)
  show cd_st b k n < 2 ^ 12
  unfold cd_st
  split <;> split <;> first | exact h1 | exact Nat.or_lt_two_pow h1 p1 | exact Nat.or_lt_two_pow h1 p2
def cd_ok (b : Nat → Bool) (n k : Nat) : Prop := (b k = true → n.testBit (8 + k / 4) = true → n.testBit (k % 4) = true) ∧ (b k = false → n.testBit (k % 4) = true → n.testBit (8 + k / 4) = true)
theorem cd_st_ok {b : Nat → Bool} {k n : Nat} (h : cd_st b k n = n) : cd_ok b n k := by
  constructor
  · intro hb ht
    have e : (cd_st b k n).testBit (k % 4) = true := by
      unfold cd_st
      rw [if_pos hb, if_pos ht, Nat.testBit_or, Nat.testBit_two_pow_self, Bool.or_true]
    rw [h] at e
    exact e
  · intro hb ht
    have e : (cd_st b k n).testBit (8 + k / 4) = true := by
      unfold cd_st
      rw [if_neg (by rw [hb]; decide), if_pos ht, Nat.testBit_or, Nat.testBit_two_pow_self, Bool.or_true]
    rw [h] at e
    exact e
theorem cd_st_re {b : Nat → Bool} {t k n : Nat} (hk : k < 16) (h : ∀ i, n.testBit i = true → cd_Re b t i) : ∀ i, (cd_st b k n).testBit i = true → cd_Re b t i := by
  intro i hi
  have e : 4 * (k / 4) + k % 4 = k := by omega
  have C := cd_re_cl (b := b) (t := t) (k % 4) (k / 4) (by omega) (by omega)
  rw [e] at C
  unfold cd_st at hi
  split at hi
  · rename_i hb
    split at hi
    · rename_i hs
      rw [Nat.testBit_or, Nat.testBit_two_pow, Bool.or_eq_true] at hi
      rcases hi with hi | hi
      · exact h i hi
      · have z := of_decide_eq_true hi
        rw [← z]
        exact C.1 hb (h _ hs)
    · exact h i hi
  · rename_i hb
    split at hi
    · rename_i hs
      rw [Nat.testBit_or, Nat.testBit_two_pow, Bool.or_eq_true] at hi
      rcases hi with hi | hi
      · exact h i hi
      · have z := of_decide_eq_true hi
        rw [← z]
        exact C.2 (Bool.eq_false_iff.mpr hb) (h _ hs)
    · exact h i hi
theorem cd_ok_cl {b : Nat → Bool} {n : Nat} (h : ∀ k, k < 16 → cd_ok b n k) : cd_cl b (fun i => n.testBit i = true) := fun c r hc hr => by
  have z := h (4 * r + c) (by omega)
  unfold cd_ok at z
  rw [show (4 * r + c) % 4 = c by omega, show (4 * r + c) / 4 = r by omega] at z
  exact z
theorem cd_wc : ∀ k, k < 16 → (1 : Int32) <<< ((nI k &&& 3) &&& 31) = nI (2 ^ (k % 4)) := by decide +kernel
theorem cd_wr : ∀ k, k < 16 → (256 : Int32) <<< ((nI k >>> ((2 : Int32) &&& 31)) &&& 31) = nI (2 ^ (8 + k / 4)) := by decide +kernel
theorem cd_with16 {post : Int32 → Prop} {J6 : Int32 → Int32 → Prop} {R : Int32} {t n0 : Nat} (h0 : n0 < 4096) (hr : ∀ i, n0.testBit i = true → cd_Re (cd_b R) t i)
    (H : ∀ n, n < 4096 → n0 ≤ n → (∀ i, n0.testBit i = true → n.testBit i = true) → (∀ i, n.testBit i = true → cd_Re (cd_b R) t i) → (n = n0 → cd_cl (cd_b R) (fun i => n.testBit i = true)) → J6 (nI n) (nI n0)) :
    ∃ fu, wL_with_16 post J6 R (nI n0) fu (nI n0) 0 := by
  refine pk_loop (fun f k n => wL_with_16 post J6 R (nI n0) f (nI n) (nI k)) (fun k n => n < 4096 ∧ n0 ≤ n ∧ (∀ i, n0.testBit i = true → n.testBit i = true) ∧ (∀ i, n.testBit i = true → cd_Re (cd_b R) t i) ∧ (n = n0 → ∀ k', k' < k → cd_ok (cd_b R) n k')) 16 0 n0 (by omega) ⟨h0, Nat.le_refl _, fun _ h => h, hr, fun _ k' hk' => absurd hk' (by omega)⟩ ?_ ?_
  · rintro f n ⟨h1, h2, h3, h4, h5⟩
    exact pk_le 16 16 (fun _ => H n h1 h2 h3 h4 (fun e => cd_ok_cl (h5 e))) (fun z => absurd z (by omega))
  · rintro f k n hk ⟨h1, h2, h3, h4, h5⟩ hw
    have T : wL_with_16 post J6 R (nI n0) f (nI (cd_st (cd_b R) k n)) (nI (k + 1)) := by
      refine hw _ ⟨cd_st_lt _ hk h1, Nat.le_trans h2 (cd_st_le _ _ _), fun i hi => cd_st_mono _ _ _ _ (h3 i hi), cd_st_re hk h4, fun e k' hk' => ?_⟩
      have e2 : n = n0 := Nat.le_antisymm (by rw [← e]; exact cd_st_le _ _ _) h2
      rw [e]
      rcases Nat.lt_or_ge k' k with z | z
      · rw [← e2]
        exact h5 e2 k' z
      · have e3 : k' = k := by omega
        rw [e3]
        exact cd_st_ok (by rw [e2] at e; exact e)
    refine pk_le 16 k (fun z => absurd z (by omega)) (fun _ => nm_r (cd_wc k hk) (nm_r (cd_wr k hk) ?_))
    rw [cd_bit R k (by omega)]
    have hn : n < 2 ^ 31 := by omega
    unfold cd_st at T
    cases hb : cd_b R k
    · rw [hb, if_neg (by decide)] at T
      refine br_f (by decide) (br_t rfl ?_)
      cases hs : n.testBit (k % 4)
      · rw [hs, if_neg (by decide)] at T
        exact br_t ((cd_and0 hn).mpr hs) (nm_r (nI_1 k) T)
      · rw [hs, if_pos rfl] at T
        refine br_f (fun z => ?_) (br_t rfl (nm_r (cd_nor _ _) (nm_r (nI_1 k) T)))
        rw [(cd_and0 hn).mp z] at hs
        exact absurd hs (by decide)
    · rw [hb, if_pos rfl] at T
      refine br_t (by decide) (br_f (by decide) ?_)
      cases hs : n.testBit (8 + k / 4)
      · rw [hs, if_neg (by decide)] at T
        exact br_t ((cd_and0 hn).mpr hs) (nm_r (nI_1 k) T)
      · rw [hs, if_pos rfl] at T
        refine br_f (fun z => ?_) (br_f (by decide) (nm_r (cd_nor _ _) (nm_r (nI_1 k) T)))
        rw [(cd_and0 hn).mp z] at hs
        exact absurd hs (by decide)
/-- with(rows, t) answers the threads that every closed set with t holds -/
theorem cd_with {post : Int32 → Prop} {R : Int32} {t : Nat} (ht : t < 12) (H : ∀ w, w < 4096 → (∀ i, w.testBit i = true ↔ cd_Re (cd_b R) t i) → post (nI w)) : wpL_with post () R (nI t) := by
  refine nm_r (cd_pow t (by omega)) ?_
  refine loop_m (σ := Nat × Nat) (fun f s => wL_with_6 post R f (nI s.1) (nI s.2)) (fun s => s.1 < 4096 ∧ s.2 < 4096 ∧ s.1.testBit t = true ∧ (∀ i, s.1.testBit i = true → cd_Re (cd_b R) t i) ∧ (s.1 = s.2 → cd_cl (cd_b R) (fun i => s.1.testBit i = true))) (fun s => if s.1 = s.2 then 0 else 4097 - s.1) ?_ (2 ^ t, 0) ?_
  · rintro f ⟨s, p⟩ ⟨h1, h2, h3, h4, h5⟩ hk
    dsimp only at h1 h2 h3 h4 h5
    refine pk_eq s p (fun e => H s h1 (fun i => ⟨h4 i, fun hre => hre _ (h5 e) h3⟩)) (fun ne => ?_)
    refine cd_with16 h1 h4 (fun n hn hle hmono hre hcl => hk (n, s) ⟨hn, h1, hmono t h3, hre, fun e => hcl e⟩ ?_)
    show (if n = s then 0 else 4097 - n) < (if s = p then 0 else 4097 - s)
    rw [if_neg ne]
    split <;> omega
  · have hp : 2 ^ t < 2 ^ 12 := Nat.pow_lt_pow_right (by omega) ht
    refine ⟨hp, by omega, Nat.testBit_two_pow_self, fun i hi => ?_, fun e => ?_⟩
    · rw [Nat.testBit_two_pow] at hi
      rw [of_decide_eq_true hi]
      exact cd_re_self
    · have h0 : 0 < 2 ^ t := Nat.pow_pos (by omega)
      exact absurd e (by dsimp only; omega)
end
section
/-! the object: its making, the loom, what lies under a thread -/
/-- the loom as the law sets it -/
def cd_K (b : Nat → Bool) (a1 a2 a3 : Nat → Int32) : Prop := (∀ i, i < 4 → a1 i = nI i) ∧ (∀ i, i < 4 → a2 i = nI i) ∧ (∀ r, r < 4 → ∃ j, j < 16 ∧ a3 r = nI j ∧ ∀ c, c < 4 → j.testBit c = b (4 * r + c))
theorem cd_init {post : St2 → Prop} {mc ms : Nat} (hc : 8 ≤ mc) (hs : 102 ≤ ms) (H : post (4, 4, 0, fun _ => 0, fun _ => 0, fun _ => 0, fun _ => 0, fun _ => 0, fun _ => 0, fun _ => 0, fun _ => 0)) : wpX_init post mc ms (0, 0, 0) 4 4 := by
  unfold wpX_init
  refine ⟨by omega, by omega, by omega, by omega, by omega, by omega, by omega, by omega, by omega, by omega, by omega, by omega, by omega, by omega, by omega, by omega, ?_⟩
  exact pk_le 1 4 (fun _ => pk_le 4 8 (fun _ => pk_le 1 4 (fun _ => pk_le 4 8 (fun _ => H) (fun z => absurd z (by omega))) (fun z => absurd z (by omega))) (fun z => absurd z (by omega))) (fun z => absurd z (by omega))
section
variable {b : Nat → Bool} {fw fh st : Int32} {a1 a2 a3 a4 a5 a6 a7 a8 : Nat → Int32}
theorem cd_bad4 {post : Int32 → Prop} {k : Nat} (hk : k < 4) (H : post 0) : wpX_badFour post (fw, fh, st, a1, a2, a3, a4, a5, a6, a7, a8) (nI k) :=
  pk_lt k 0 (fun z => absurd z (by omega)) (fun _ => pk_lt k 4 (fun _ => H) (fun z => absurd z (by omega)))
theorem cd_thv : ∀ i, i < 4 → (((0 : Int32) + ((1 : Int32) * nI i)) &&& 3).toInt8.toInt32 = nI i := by decide +kernel
theorem cd_thr {post : Int32 → St2 → Prop} (H : ∀ a1', (∀ i, i < 4 → a1' i = nI i) → post 0 (4, 4, st, a1', a2, a3, a4, a5, a6, a7, a8)) : wpX_threadAll post (4, 4, st, a1, a2, a3, a4, a5, a6, a7, a8) 0 1 := by
  unfold wpX_threadAll
  refine cd_bad4 (k := 0) (by omega) (br_t rfl (cd_bad4 (k := 1) (by omega) (br_t rfl ?_)))
  exact pk_loop (fun n i s => wX_threadAll_20 post 0 1 4 4 st n (nI i) s a2 a3 a4 a5 a6 a7 a8) (fun i s => ∀ j, j < i → s j = nI j) 4 0 a1 (by omega) (fun j hj => absurd hj (by omega))
    (fun n s h => pk_le 4 4 (fun _ => H s h) (fun z => absurd z (by omega)))
    (fun n i s hi h hw => pk_le 4 i (fun z => absurd z (by omega)) (fun _ => ⟨pk_in i 8 (by omega), nm_e (nm_r (nI_1 i) (hw _ (cd_fill (f := nI) (nI_clamp (by omega)) h (cd_thv i hi))))⟩))
theorem cd_trd {post : Int32 → St2 → Prop} (H : ∀ a2', (∀ i, i < 4 → a2' i = nI i) → post 0 (4, 4, st, a1, a2', a3, a4, a5, a6, a7, a8)) : wpX_treadleAll post (4, 4, st, a1, a2, a3, a4, a5, a6, a7, a8) 0 1 := by
  unfold wpX_treadleAll
  refine cd_bad4 (k := 0) (by omega) (br_t rfl (cd_bad4 (k := 1) (by omega) (br_t rfl ?_)))
  exact pk_loop (fun n i s => wX_treadleAll_20 post 0 1 4 4 st n (nI i) a1 s a3 a4 a5 a6 a7 a8) (fun i s => ∀ j, j < i → s j = nI j) 4 0 a2 (by omega) (fun j hj => absurd hj (by omega))
    (fun n s h => pk_le 4 4 (fun _ => H s h) (fun z => absurd z (by omega)))
    (fun n i s hi h hw => pk_le 4 i (fun z => absurd z (by omega)) (fun _ => ⟨pk_in i 8 (by omega), nm_e (nm_r (nI_1 i) (hw _ (cd_fill (f := nI) (nI_clamp (by omega)) h (cd_thv i hi))))⟩))
theorem cd_tie {post : Int32 → St2 → Prop} {R : Int32} {k : Nat} (hk : k < 4) (H : ∀ r j, j < 16 → (∀ c, c < 4 → j.testBit c = cd_b R (4 * k + c)) → post r (4, 4, st, a1, a2, upd a3 k (nI j), a4, a5, a6, a7, a8)) : wpX_tie post (4, 4, st, a1, a2, a3, a4, a5, a6, a7, a8) (nI k) ((R >>> (((4 : Int32) * nI k) &&& 31)) &&& 15) := by
  obtain ⟨j, hj, ej, hb⟩ := cd_row R hk
  rw [ej]
  unfold wpX_tie
  refine cd_bad4 hk (br_t rfl (pk_lt j 0 (fun z => absurd z (by omega)) (fun _ => pk_le j 15 (fun _ => ⟨pk_in k 4 hk, nm_e ⟨pk_in k 4 hk, nm_r ?_ (H _ j hj hb)⟩⟩) (fun z => absurd z (by omega)))))
  rw [nI_clamp (by omega), cd_nar j (by omega)]
theorem cd_abv {post : Int32 → Prop} (hK : cd_K b a1 a2 a3) {c r : Nat} (hc : c < 4) (hr : r < 4) (H : post (nI (b (4 * r + c)).toNat)) : wpX_isAbove post (fw, fh, st, a1, a2, a3, a4, a5, a6, a7, a8) (nI c) (nI r) := by
  obtain ⟨k1, k2, k3⟩ := hK
  obtain ⟨j, hj, ej, hb⟩ := k3 r hr
  unfold wpX_isAbove
  dsimp only
  rw [nI_clamp (n := c) (by omega), nI_clamp (n := r) (by omega), k2 r hr, nI_clamp (n := r) (by omega), ej, k1 c hc, cd_bit _ c (by omega), cd_b_nI _ (by omega), hb c hc]
  refine ⟨pk_in r 8 (by omega), pk_in r 4 hr, pk_in c 8 (by omega), ?_⟩
  cases hbb : b (4 * r + c)
  · rw [hbb] at H
    exact br_f (by decide) H
  · rw [hbb] at H
    exact br_t (by decide) H
/-- what findUnder has stored at thread t after k places of the cloth -/
def cd_un (b : Nat → Bool) : Nat → Nat → Nat
  | 0, _ => 0
  | k + 1, t => if b k = true then (if t = k % 4 then cd_un b k t ||| 2 ^ (8 + k / 4) else cd_un b k t) else (if t = 8 + k / 4 then cd_un b k t ||| 2 ^ (k % 4) else cd_un b k t)
def cd_U (b : Nat → Bool) (a4 : Nat → Int32) : Prop := ∀ t, t < 16 → a4 t = nI (cd_un b 16 t)
theorem cd_fu {post : St2 → Prop} (hK : cd_K b a1 a2 a3) (H : ∀ a4', cd_U b a4' → post (4, 4, st, a1, a2, a3, a4', a5, a6, a7, a8)) : wpX_findUnder post (4, 4, st, a1, a2, a3, a4, a5, a6, a7, a8) := by
  unfold wpX_findUnder
  refine pk_loop (fun n i s => wX_findUnder_2 post 4 4 st n (nI i) a1 a2 a3 s a5 a6 a7 a8) (fun i s => ∀ j, j < i → s j = 0) 16 0 a4 (by omega) (fun j hj => absurd hj (by omega)) (fun n s h => pk_le 16 16 (fun _ => ?_) (fun z => absurd z (by omega)))
    (fun n i s hi h hw => pk_le 16 i (fun z => absurd z (by omega)) (fun _ => ⟨pk_in i 16 hi, nm_e (nm_r (nI_1 i) (hw _ (cd_fill (f := fun _ => 0) (nI_clamp (by omega)) h rfl)))⟩))
  refine pk_loop (fun n k s => wX_findUnder_23 post 4 4 st n (nI k) a1 a2 a3 s a5 a6 a7 a8) (fun k s => ∀ t, t < 16 → s t = nI (cd_un b k t)) 16 0 s (by omega) (fun t ht => h t ht) (fun n s h => pk_le 16 16 (fun _ => H s h) (fun z => absurd z (by omega)) (hx := by decide)) ?_
  intro n k s hk h hw
  refine pk_le 16 k (fun z => absurd z (by omega)) (fun _ => ⟨by decide, nm_r (pk_rem (a := k) (d := 4) (by omega) (by omega) (by omega)) ⟨by decide, nm_r (pk_div (a := k) (d := 4) (by omega) (by omega) (by omega)) (cd_abv hK (by omega) (by omega) ?_)⟩⟩) (hx := by decide)
  rw [show 4 * (k / 4) + k % 4 = k by omega, show (8 : Int32) + nI (k / 4) = nI (8 + k / 4) from nI_add 8 (k / 4), cd_pow (k % 4) (by omega), cd_pow (8 + k / 4) (by omega), nI_clamp (n := 8 + k / 4) (by omega), nI_clamp (n := k % 4) (by omega)]
  have W : ∀ s', (∀ t, t < 16 → s' t = nI (cd_un b (k + 1) t)) → wX_findUnder_23 post 4 4 st n (nI (k + 1)) a1 a2 a3 s' a5 a6 a7 a8 := hw
  have V : ∀ p e, p < 16 → (∀ t, t < 16 → cd_un b (k + 1) t = if t = p then cd_un b k t ||| 2 ^ e else cd_un b k t) → ∀ t, t < 16 → upd s p (s p ||| nI (2 ^ e)) t = nI (cd_un b (k + 1) t) := by
    intro p e hp hv t ht
    rw [hv t ht]
    by_cases et : t = p
    · rw [if_pos et, et, pk_us, h p hp, cd_nor]
    · rw [if_neg et, pk_un et, h t ht]
  cases hb : b k
  · exact br_t rfl ⟨pk_in (8 + k / 4) 16 (by omega), pk_in (8 + k / 4) 16 (by omega), nm_e (nm_r (nI_1 k) (W _ (V _ _ (by omega) (fun t _ => by
      show (if b k = true then _ else _) = _
      rw [hb, if_neg (by decide)]))))⟩
  · exact br_f (by decide) ⟨pk_in (k % 4) 16 (by omega), pk_in (k % 4) 16 (by omega), nm_e (nm_r (nI_1 k) (W _ (V _ _ (by omega) (fun t _ => by
      show (if b k = true then _ else _) = _
      rw [hb, if_pos rfl]))))⟩
/-- how many bits a set has below k -/
def cd_pc (n : Nat) : Nat → Nat
  | 0 => 0
  | k + 1 => cd_pc n k + (n.testBit k).toNat
theorem cd_pc_le (n : Nat) : ∀ k, cd_pc n k ≤ k
  | 0 => Nat.le_refl 0
  | k + 1 => by
    have h := cd_pc_le n k
    have h2 : (n.testBit k).toNat ≤ 1 := Bool.toNat_le _
    show cd_pc n k + (n.testBit k).toNat ≤ k + 1
    omega
theorem cd_size {post : Int32 → Prop} {n : Nat} (H : post (nI (cd_pc n 16))) : wpX_sizeOf post (fw, fh, st, a1, a2, a3, a4, a5, a6, a7, a8) (nI n) := by
  unfold wpX_sizeOf
  refine pk_loop (σ := Unit) (fun f i _ => wX_sizeOf_4 post (nI n) fw fh st a1 a2 a3 a4 a5 a6 a7 a8 f (nI (cd_pc n i)) (nI i)) (fun _ _ => True) 16 0 () (by omega) trivial (fun f _ _ => pk_le 16 16 (fun _ => H) (fun z => absurd z (by omega))) ?_
  intro f i _ hi _ hw
  refine pk_le 16 i (fun z => absurd z (by omega)) (fun _ => nm_r (e' := nI (cd_pc n (i + 1))) ?_ (nm_r (nI_1 i) (hw () trivial)))
  rw [cd_bit _ i (by omega), cd_b_nI _ (by omega), nI_add]
  rfl
end
theorem cd_un_bit (b : Nat → Bool) : ∀ k t i, (cd_un b k t).testBit i = true ↔ ∃ k', k' < k ∧ ((b k' = true ∧ t = k' % 4 ∧ i = 8 + k' / 4) ∨ (b k' = false ∧ t = 8 + k' / 4 ∧ i = k' % 4)) := by
  intro k
  induction k with
  | zero =>
    intro t i
    constructor
    · intro h
      exact absurd (show (0 : Nat).testBit i = true from h) (by rw [Nat.zero_testBit]; decide)
    · rintro ⟨k', h, _⟩
      exact absurd h (by omega)
  | succ k ih =>
    intro t i
    have key : (cd_un b (k + 1) t).testBit i = true ↔ (cd_un b k t).testBit i = true ∨ ((b k = true ∧ t = k % 4 ∧ i = 8 + k / 4) ∨ (b k = false ∧ t = 8 + k / 4 ∧ i = k % 4)) := by
      show (if b k = true then _ else _ : Nat).testBit i = true ↔ _
      cases hb : b k
      · rw [if_neg (by decide)]
        by_cases e : t = 8 + k / 4
        · rw [if_pos e, Nat.testBit_or, Nat.testBit_two_pow, Bool.or_eq_true, decide_eq_true_iff]
          constructor
          · rintro (h | h)
            · exact Or.inl h
            · exact Or.inr (Or.inr ⟨rfl, e, h.symm⟩)
          · rintro (h | h | h)
            · exact Or.inl h
            · exact absurd h.1 (by decide)
            · exact Or.inr h.2.2.symm
        · rw [if_neg e]
          constructor
          · exact Or.inl
          · rintro (h | h | h)
            · exact h
            · exact absurd h.1 (by decide)
            · exact absurd h.2.1 e
      · rw [if_pos rfl]
        by_cases e : t = k % 4
        · rw [if_pos e, Nat.testBit_or, Nat.testBit_two_pow, Bool.or_eq_true, decide_eq_true_iff]
          constructor
          · rintro (h | h)
            · exact Or.inl h
            · exact Or.inr (Or.inl ⟨rfl, e, h.symm⟩)
          · rintro (h | h | h)
            · exact Or.inl h
            · exact Or.inr h.2.2.symm
            · exact absurd h.1 (by decide)
        · rw [if_neg e]
          constructor
          · exact Or.inl
          · rintro (h | h | h)
            · exact h
            · exact absurd h.2.1 e
            · exact absurd h.1 (by decide)
    rw [key, ih]
    constructor
    · rintro (⟨k', h1, h2⟩ | h)
      · exact ⟨k', by omega, h2⟩
      · exact ⟨k, by omega, h⟩
    · rintro ⟨k', h1, h2⟩
      rcases Nat.lt_or_ge k' k with z | z
      · exact Or.inl ⟨k', z, h2⟩
      · have e : k' = k := by omega
        rw [e] at h2
        exact Or.inr h2
theorem cd_un_w (b : Nat → Bool) {c : Nat} (hc : c < 4) (i : Nat) : (cd_un b 16 c).testBit i = (decide (8 ≤ i ∧ i < 12) && b (4 * (i - 8) + c)) := by
  rw [Bool.eq_iff_iff, cd_un_bit, Bool.and_eq_true, decide_eq_true_iff]
  constructor
  · rintro ⟨k, hk, (⟨h1, h2, h3⟩ | ⟨h1, h2, h3⟩)⟩
    · refine ⟨by omega, ?_⟩
      rw [show 4 * (i - 8) + c = k by omega]
      exact h1
    · exact absurd h2 (by omega)
  · rintro ⟨h1, h2⟩
    exact ⟨4 * (i - 8) + c, by omega, Or.inl ⟨h2, by omega, by omega⟩⟩
theorem cd_un_f (b : Nat → Bool) {r : Nat} (hr : r < 4) (i : Nat) : (cd_un b 16 (8 + r)).testBit i = (decide (i < 4) && !b (4 * r + i)) := by
  rw [Bool.eq_iff_iff, cd_un_bit, Bool.and_eq_true, decide_eq_true_iff, Bool.not_eq_true']
  constructor
  · rintro ⟨k, hk, (⟨h1, h2, h3⟩ | ⟨h1, h2, h3⟩)⟩
    · exact absurd h2 (by omega)
    · refine ⟨by omega, ?_⟩
      rw [show 4 * r + i = k by omega]
      exact h1
  · rintro ⟨h1, h2⟩
    exact ⟨4 * r + i, by omega, Or.inr ⟨h2, by omega, by omega⟩⟩
/-- how many threads lie under thread t -/
def cd_g (b : Nat → Bool) (t : Nat) : Nat := cd_pc (cd_un b 16 t) 16
theorem cd_g_lt (b : Nat → Bool) (t : Nat) : cd_g b t < 17 := Nat.lt_succ_of_le (cd_pc_le _ 16)
theorem cd_g_w (b : Nat → Bool) {c : Nat} (hc : c < 4) : cd_g b c = (b (4 * 0 + c)).toNat + (b (4 * 1 + c)).toNat + (b (4 * 2 + c)).toNat + (b (4 * 3 + c)).toNat := by
  unfold cd_g
  simp [cd_pc, cd_un_w b hc]
theorem cd_g_f (b : Nat → Bool) {r : Nat} (hr : r < 4) : cd_g b (8 + r) = (!b (4 * r + 0)).toNat + (!b (4 * r + 1)).toNat + (!b (4 * r + 2)).toNat + (!b (4 * r + 3)).toNat := by
  unfold cd_g
  simp [cd_pc, cd_un_f b hr]
end
section
/-! sort: the threads from first on, those above most others first -/
def cd_ord (g : Nat → Nat) (first i : Nat) (o : Nat → Nat) (s : Nat → Int32) : Prop := (∀ j, j < i → o j < i ∧ s (first + j) = nI (first + o j)) ∧ (∀ j j', j < i → j' < i → o j = o j' → j = j') ∧ (∀ j j', j < j' → j' < i → g (first + o j') ≤ g (first + o j))
def cd_oi (o : Nat → Nat) (p i : Nat) : Nat → Nat := fun j => if j < p then o j else if j = p then i else o (j - 1)
theorem cd_oi_l {o : Nat → Nat} {p i j : Nat} (h : j < p) : cd_oi o p i j = o j := if_pos h
theorem cd_oi_e {o : Nat → Nat} {p i : Nat} : cd_oi o p i p = i := by
  unfold cd_oi
  rw [if_neg (by omega), if_pos rfl]
theorem cd_oi_g {o : Nat → Nat} {p i j : Nat} (h : p < j) : cd_oi o p i j = o (j - 1) := by
  unfold cd_oi
  rw [if_neg (by omega), if_neg (by omega)]
theorem cd_ins {g : Nat → Nat} {first i p : Nat} {o : Nat → Nat} {s : Nat → Int32} (hp : p ≤ i) (h1 : ∀ j, j < i → o j < i) (h2 : ∀ j j', j < i → j' < i → o j = o j' → j = j') (h3 : ∀ j j', j < j' → j' < i → g (first + o j') ≤ g (first + o j))
    (hc : p = 0 ∨ g (first + i) ≤ g (first + o (p - 1))) (hl : ∀ j, p ≤ j → j < i → g (first + o j) < g (first + i)) (v1 : ∀ j, j < p → s (first + j) = nI (first + o j)) (v2 : ∀ j, p ≤ j → j < i → s (first + j + 1) = nI (first + o j)) :
    cd_ord g first (i + 1) (cd_oi o p i) (upd s (first + p) (nI (first + i))) := by
  refine ⟨fun j hj => ?_, fun j j' hj hj' => ?_, fun j j' hjj hj' => ?_⟩
  · rcases Nat.lt_trichotomy j p with z | z | z
    · rw [cd_oi_l z, pk_un (by omega), v1 j z]
      have := h1 j (by omega)
      exact ⟨by omega, rfl⟩
    · rw [z, cd_oi_e, pk_us]
      exact ⟨by omega, rfl⟩
    · rw [cd_oi_g z, pk_un (by omega)]
      have h := h1 (j - 1) (by omega)
      have w := v2 (j - 1) (by omega) (by omega)
      rw [show first + (j - 1) + 1 = first + j by omega] at w
      exact ⟨by omega, w⟩
  · rcases Nat.lt_trichotomy j p with z | z | z <;> rcases Nat.lt_trichotomy j' p with z' | z' | z'
    · rw [cd_oi_l z, cd_oi_l z']
      exact h2 j j' (by omega) (by omega)
    · rw [cd_oi_l z, z', cd_oi_e]
      intro e
      have := h1 j (by omega)
      omega
    · rw [cd_oi_l z, cd_oi_g z']
      intro e
      have := h2 j (j' - 1) (by omega) (by omega) e
      omega
    · rw [z, cd_oi_e, cd_oi_l z']
      intro e
      have := h1 j' (by omega)
      omega
    · intro _
      omega
    · rw [z, cd_oi_e, cd_oi_g z']
      intro e
      have := h1 (j' - 1) (by omega)
      omega
    · rw [cd_oi_g z, cd_oi_l z']
      intro e
      have := h2 (j - 1) j' (by omega) (by omega) e
      omega
    · rw [cd_oi_g z, z', cd_oi_e]
      intro e
      have := h1 (j - 1) (by omega)
      omega
    · rw [cd_oi_g z, cd_oi_g z']
      intro e
      have := h2 (j - 1) (j' - 1) (by omega) (by omega) e
      omega
  · rcases Nat.lt_trichotomy j' p with z' | z' | z'
    · rw [cd_oi_l z', cd_oi_l (show j < p by omega)]
      exact h3 j j' hjj (by omega)
    · rw [z', cd_oi_e, cd_oi_l (show j < p by omega)]
      rcases hc with h0 | hc
      · omega
      · rcases Nat.lt_or_ge j (p - 1) with y | y
        · exact Nat.le_trans hc (h3 j (p - 1) y (by omega))
        · rw [show j = p - 1 by omega]
          exact hc
    · rw [cd_oi_g z']
      rcases Nat.lt_trichotomy j p with z | z | z
      · rw [cd_oi_l z]
        exact h3 j (j' - 1) (by omega) (by omega)
      · rw [z, cd_oi_e]
        exact Nat.le_of_lt (hl (j' - 1) (by omega) (by omega))
      · rw [cd_oi_g z]
        exact h3 (j - 1) (j' - 1) (by omega) (by omega)
section
variable {b : Nat → Bool} {post : St2 → Prop} {st : Int32} {a1 a2 a3 a4 a5 a6 a7 a8 : Nat → Int32}
/-- while the thread first + i is put in its place: the hole stands at p -/
def cd_hole (g : Nat → Nat) (first i : Nat) (o : Nat → Nat) (a5 : Nat → Int32) (p : Nat) (s : Nat → Int32) : Prop := (∀ j, j < p → s (first + j) = nI (first + o j)) ∧ (∀ j, p ≤ j → j < i → s (first + j + 1) = nI (first + o j) ∧ g (first + o j) < g (first + i)) ∧ (∀ j, (j < first ∨ first + 4 ≤ j) → s j = a5 j)
theorem cd_s108 {J2 : Int32 → (Nat → Int32) → (Nat → Int32) → (Nat → Int32) → (Nat → Int32) → (Nat → Int32) → (Nat → Int32) → (Nat → Int32) → (Nat → Int32) → Prop} {first i p : Nat} (hf : first ≤ 8) (hi : i < 4) (hp : p ≤ i) {s : Nat → Int32}
    (H : J2 (nI (i + 1)) a1 a2 a3 a4 (upd s (first + p) (nI (first + i))) a6 a7 a8) : wX_sort_108 post J2 (nI first) 4 (nI i) (nI (first + i)) (nI p) 4 4 st a1 a2 a3 a4 s a6 a7 a8 := by
  unfold wX_sort_108
  rw [nI_add, nI_clamp (n := first + p) (by omega), cd_nar (first + i) (by omega)]
  exact ⟨pk_in (first + p) 16 (by omega), nm_e (nm_r (nI_1 i) H)⟩
theorem cd_sort31 {J2 : Int32 → (Nat → Int32) → (Nat → Int32) → (Nat → Int32) → (Nat → Int32) → (Nat → Int32) → (Nat → Int32) → (Nat → Int32) → (Nat → Int32) → Prop} (hU : cd_U b a4) {first i : Nat} (hf : first ≤ 8) (hi : i < 4) {o : Nat → Nat} (ho : ∀ j, j < i → o j < i)
    (H : ∀ p s, p ≤ i → (p = 0 ∨ cd_g b (first + i) ≤ cd_g b (first + o (p - 1))) → cd_hole (cd_g b) first i o a5 p s → J2 (nI (i + 1)) a1 a2 a3 a4 (upd s (first + p) (nI (first + i))) a6 a7 a8) :
    ∀ p s, p ≤ i → cd_hole (cd_g b) first i o a5 p s → wX_sort_31 post J2 (nI first) 4 (nI i) (nI (first + i)) (nI (cd_g b (first + i))) 4 4 st (p + 2) (nI p) 1 a1 a2 a3 a4 s a6 a7 a8 := by
  intro p
  induction p with
  | zero =>
    intro s hp hh
    exact pk_le 0 0 (fun _ => cd_s108 hf hi hp (H 0 s hp (Or.inl rfl) hh)) (fun z => absurd z (by omega))
  | succ p ih =>
    intro s hp hh
    have hop := ho p (by omega)
    have e1 : nI first + nI (p + 1) - 1 = nI (first + p) := by rw [nI_add]; exact nI_pred (first + p)
    have e2 : s (first + p) = nI (first + o p) := hh.1 p (by omega)
    have hg1 := cd_g_lt b (first + i)
    have hg2 := cd_g_lt b (first + o p)
    refine pk_le (p + 1) 0 (fun z => absurd z (by omega)) (fun _ => br_f (by decide) ?_)
    rw [e1, nI_clamp (n := first + p) (by omega), e2, nI_clamp (n := first + o p) (by omega), hU (first + o p) (by omega)]
    refine ⟨pk_in (first + p) 16 (by omega), pk_in (first + o p) 16 (by omega), cd_size ?_⟩
    refine pk_le (cd_g b (first + i)) (cd_g b (first + o p)) (fun z => br_t rfl ?_) (fun z => br_f (by decide) ?_)
    · exact pk_le (p + 1) 0 (fun z => absurd z (by omega)) (fun _ => br_t rfl (cd_s108 hf hi hp (H (p + 1) s hp (Or.inr z) hh)))
    · rw [e1, nI_clamp (n := first + p) (by omega), e2, nI_add, nI_clamp (n := first + (p + 1)) (by omega), vp_nar_byte, cd_nar (first + o p) (by omega)]
      refine ⟨pk_in (first + p) 16 (by omega), pk_in (first + (p + 1)) 16 (by omega), nm_e (nm_r (pk_m1 p) (ih _ (by omega) ⟨fun j hj => ?_, fun j hj hji => ?_, fun j hj => ?_⟩))⟩
      · rw [pk_un (by omega)]
        exact hh.1 j (by omega)
      · by_cases ej : j = p
        · rw [ej, show first + p + 1 = first + (p + 1) by omega, pk_us]
          exact ⟨rfl, z⟩
        · rw [pk_un (by omega)]
          exact hh.2.1 j (by omega) hji
      · rw [pk_un (by omega)]
        exact hh.2.2 j hj
theorem cd_sort (hU : cd_U b a4) {first : Nat} (hf : first ≤ 8) (H : ∀ s, (∃ o, cd_ord (cd_g b) first 4 o s) → (∀ j, (j < first ∨ first + 4 ≤ j) → s j = a5 j) → post (4, 4, st, a1, a2, a3, a4, s, a6, a7, a8)) : wpX_sort post (4, 4, st, a1, a2, a3, a4, a5, a6, a7, a8) (nI first) 4 := by
  unfold wpX_sort
  refine pk_loop (fun n i s => wX_sort_2 post (nI first) 4 4 4 st n (nI i) a1 a2 a3 a4 s a6 a7 a8) (fun i s => (∃ o, cd_ord (cd_g b) first i o s) ∧ ∀ j, (j < first ∨ first + 4 ≤ j) → s j = a5 j) 4 0 a5 (by omega) ⟨⟨id, fun j hj => absurd hj (by omega), fun j _ hj => absurd hj (by omega), fun j j' _ hj => absurd hj (by omega)⟩, fun _ _ => rfl⟩ (fun n s h => pk_le 4 4 (fun _ => H s h.1 h.2) (fun z => absurd z (by omega))) ?_
  rintro n i s hi ⟨⟨o, h1, h2, h3⟩, h4⟩ hw
  have W : ∀ s', ((∃ o, cd_ord (cd_g b) first (i + 1) o s') ∧ ∀ j, (j < first ∨ first + 4 ≤ j) → s' j = a5 j) → wX_sort_2 post (nI first) 4 4 4 st n (nI (i + 1)) a1 a2 a3 a4 s' a6 a7 a8 := hw
  refine pk_le 4 i (fun z => absurd z (by omega)) (fun _ => nm_r (nI_add first i) ⟨pk_in (first + i) 16 (by omega), ?_⟩)
  rw [nI_clamp (n := first + i) (by omega), hU (first + i) (by omega)]
  refine cd_size ⟨i + 2, cd_sort31 (a5 := a5) hU hf hi (fun j hj => (h1 j hj).1) (fun p s' hp hc hh => ?_) i s (Nat.le_refl i) ⟨fun j hj => (h1 j hj).2, fun j hj hj' => absurd hj (by omega), h4⟩⟩
  refine W _ ⟨⟨_, cd_ins hp (fun j hj => (h1 j hj).1) h2 h3 hc (fun j hj hji => (hh.2.1 j hj hji).2) hh.1 (fun j hj hji => (hh.2.1 j hj hji).1)⟩, fun j hj => ?_⟩
  rw [pk_un (by omega)]
  exact hh.2.2 j hj
end
end
section
/-! lacking, closeStep, findSteps -/
def cd_sum (f : Nat → Nat) : Nat → Nat
  | 0 => 0
  | n + 1 => cd_sum f n + f n
theorem cd_sum_le {f : Nat → Nat} {c : Nat} (h : ∀ i, f i ≤ c) : ∀ n, cd_sum f n ≤ c * n
  | 0 => Nat.zero_le _
  | n + 1 => by
    have h1 := cd_sum_le h n
    have h2 := h n
    show cd_sum f n + f n ≤ c * (n + 1)
    rw [Nat.mul_add, Nat.mul_one]
    omega
/-- the order array holds o (warps) and 8 + o' (wefts) -/
def cd_O (a5 : Nat → Int32) (o o' : Nat → Nat) : Prop := (∀ i, i < 4 → o i < 4 ∧ a5 i = nI (o i)) ∧ (∀ j, j < 4 → o' j < 4 ∧ a5 (8 + j) = nI (8 + o' j))
/-- the beginning of p warps and q wefts lacks nothing -/
def cd_z (b : Nat → Bool) (o o' : Nat → Nat) (p q : Nat) : Prop := cd_sum (fun i => cd_g b (o i)) p + cd_sum (fun j => cd_g b (8 + o' j)) q + p * q = 4 * p + 4 * q
theorem cd_lres {p q S : Nat} (hp : p ≤ 4) (hq : q ≤ 4) (hS : S < 1000) : (((nI p * 4) + (nI q * 4)) - (nI p * nI q)) - nI S = 0 ↔ S + p * q = 4 * p + 4 * q := by
  have hpq : p * q ≤ 4 * q := Nat.mul_le_mul_right q hp
  have e : ((nI p * 4) + (nI q * 4)) - (nI p * nI q) = nI (p * 4 + q * 4 - p * q) := by
    rw [show nI p * 4 = nI (p * 4) from pk_mul p 4, show nI q * 4 = nI (q * 4) from pk_mul q 4, pk_mul, nI_add, pk_sub (by omega)]
  rw [e]
  rcases Nat.lt_or_ge (p * 4 + q * 4 - p * q) S with z | z
  · constructor
    · intro h
      have := pk_sneg (a := p * 4 + q * 4 - p * q) (b := S) (by omega) z
      rw [h] at this
      exact absurd this (by decide)
    · intro h
      omega
  · rw [pk_sub z, ← nI_0, nI_eq (by omega) (by omega)]
    omega
section
variable {b : Nat → Bool} {st : Int32} {a1 a2 a3 a4 a5 a6 a7 a8 : Nat → Int32} {o o' : Nat → Nat}
theorem cd_lack {post : Int32 → Prop} (hU : cd_U b a4) (hO : cd_O a5 o o') {p q : Nat} (hp : p ≤ 4) (hq : q ≤ 4) (H : ∀ r : Int32, (r = 0 ↔ cd_z b o o' p q) → post r) : wpX_lacking post (4, 4, st, a1, a2, a3, a4, a5, a6, a7, a8) (nI p) (nI q) := by
  unfold wpX_lacking
  have L1 := cd_sum_le (f := fun i => cd_g b (o i)) (c := 16) (fun i => Nat.le_of_lt_succ (cd_g_lt b _)) p
  have L2 := cd_sum_le (f := fun j => cd_g b (8 + o' j)) (c := 16) (fun i => Nat.le_of_lt_succ (cd_g_lt b _)) q
  refine pk_loop (σ := Unit) (fun n i _ => wX_lacking_5 post (nI p) (nI q) 4 4 st a1 a2 a3 a4 a5 a6 a7 a8 n (nI (cd_sum (fun i => cd_g b (o i)) i)) (nI i)) (fun _ _ => True) p 0 () (by omega) trivial (fun n _ _ => pk_le p p (fun _ => ?_) (fun z => absurd z (by omega))) ?_
  · refine pk_loop (σ := Unit) (fun n j _ => wX_lacking_39 post (nI p) (nI q) 4 4 st a1 a2 a3 a4 a5 a6 a7 a8 n (nI (cd_sum (fun i => cd_g b (o i)) p + cd_sum (fun j => cd_g b (8 + o' j)) j)) (nI j)) (fun _ _ => True) q 0 () (by omega) trivial (fun n _ _ => pk_le q q (fun _ => H _ (cd_lres hp hq (by omega))) (fun z => absurd z (by omega))) ?_
    intro n j _ hj _ hw
    refine pk_le q j (fun z => absurd z (by omega)) (fun _ => ?_)
    obtain ⟨ho, ha⟩ := hO.2 j (by omega)
    rw [show (8 : Int32) + nI j = nI (8 + j) from nI_add 8 j, nI_clamp (n := 8 + j) (by omega), ha, nI_clamp (n := 8 + o' j) (by omega), hU (8 + o' j) (by omega)]
    exact ⟨pk_in (8 + j) 16 (by omega), pk_in (8 + o' j) 16 (by omega), cd_size (nm_r (by rw [nI_add, Nat.add_assoc]; rfl) (nm_r (nI_1 j) (hw () trivial)))⟩
  · intro n i _ hi _ hw
    refine pk_le p i (fun z => absurd z (by omega)) (fun _ => ?_)
    obtain ⟨ho, ha⟩ := hO.1 i (by omega)
    rw [nI_clamp (n := i) (by omega), ha, nI_clamp (n := o i) (by omega), hU (o i) (by omega)]
    exact ⟨pk_in i 16 (by omega), pk_in (o i) 16 (by omega), cd_size (nm_r (nI_add _ _) (nm_r (nI_1 i) (hw () trivial)))⟩
theorem cd_close {post : St2 → Prop} (hO : cd_O a5 o o') {m P Q p q : Nat} (hm : m < 17) (hP : P ≤ p) (hp : p ≤ 4) (hQ : Q ≤ q) (hq : q ≤ 4)
    (H : ∀ a6', (∀ i, P ≤ i → i < p → a6' (o i) = nI m) → (∀ j, Q ≤ j → j < q → a6' (8 + o' j) = nI m) → (∀ t, (∀ i, P ≤ i → i < p → t ≠ o i) → (∀ j, Q ≤ j → j < q → t ≠ 8 + o' j) → a6' t = a6 t) →
      post (4, 4, nI (m + 1), a1, a2, a3, a4, a5, a6', upd a7 m (nI (p - P + (q - Q))), upd a8 m (if P < p then 1 else 0))) :
    wpX_closeStep post (4, 4, nI m, a1, a2, a3, a4, a5, a6, a7, a8) (nI P) (nI Q) (nI p) (nI q) := by
  unfold wpX_closeStep
  refine pk_loop (fun n i s => wX_closeStep_3 post (nI P) (nI Q) (nI p) (nI q) 4 4 (nI m) n (nI i) a1 a2 a3 a4 a5 s a7 a8) (fun i s => P ≤ i ∧ (∀ i', P ≤ i' → i' < i → s (o i') = nI m) ∧ (∀ t, (∀ i', P ≤ i' → i' < i → t ≠ o i') → s t = a6 t)) p P a6 hP ⟨Nat.le_refl P, fun i' h h' => absurd h (by omega), fun t _ => rfl⟩ ?_ ?_
  · rintro n s ⟨_, h1, h2⟩
    refine pk_le p p (fun _ => ?_) (fun z => absurd z (by omega))
    refine pk_loop (fun n j s => wX_closeStep_35 post (nI P) (nI Q) (nI p) (nI q) 4 4 (nI m) n (nI j) a1 a2 a3 a4 a5 s a7 a8) (fun j s => Q ≤ j ∧ (∀ i', P ≤ i' → i' < p → s (o i') = nI m) ∧ (∀ j', Q ≤ j' → j' < j → s (8 + o' j') = nI m) ∧ (∀ t, (∀ i', P ≤ i' → i' < p → t ≠ o i') → (∀ j', Q ≤ j' → j' < j → t ≠ 8 + o' j') → s t = a6 t)) q Q s hQ ⟨Nat.le_refl Q, h1, fun j' h h' => absurd h (by omega), fun t ht _ => h2 t ht⟩ ?_ ?_
    · rintro n s ⟨_, k1, k2, k3⟩
      have R := H s k1 k2 k3
      refine pk_le q q (fun _ => ⟨pk_in m 17 hm, nm_r (e' := upd a7 m (nI (p - P + (q - Q)))) ?_ ?_⟩) (fun z => absurd z (by omega))
      · rw [nI_clamp (n := m) (by omega), pk_sub hP, nI_add, pk_sub (by omega), show p - P + q - Q = p - P + (q - Q) by omega, cd_nar _ (by omega)]
      · refine pk_le p P (fun z => ?_) (fun z => ?_)
        · unfold wX_closeStep_104
          rw [if_neg (by omega)] at R
          exact ⟨pk_in m 17 hm, nm_r (by rw [nI_clamp (n := m) (by omega)]; rfl) (nm_r (nI_1 m) R)⟩
        · unfold wX_closeStep_104
          rw [if_pos (by omega)] at R
          exact ⟨pk_in m 17 hm, nm_r (by rw [nI_clamp (n := m) (by omega)]; rfl) (nm_r (nI_1 m) R)⟩
    · rintro n j s hj ⟨hQj, k1, k2, k3⟩ hw
      refine pk_le q j (fun z => absurd z (by omega)) (fun _ => ?_)
      obtain ⟨ho, ha⟩ := hO.2 j (by omega)
      rw [show (8 : Int32) + nI j = nI (8 + j) from nI_add 8 j, nI_clamp (n := 8 + j) (by omega), ha, nI_clamp (n := 8 + o' j) (by omega), cd_nar m (by omega)]
      refine ⟨pk_in (8 + j) 16 (by omega), pk_in (8 + o' j) 16 (by omega), nm_e (nm_r (nI_1 j) (hw _ ⟨by omega, fun i' hi hi' => ?_, fun j' hj1 hj2 => ?_, fun t h1 h2 => ?_⟩))⟩
      · have := (hO.1 i' (by omega)).1
        rw [pk_un (by omega)]
        exact k1 i' hi hi'
      · by_cases e : 8 + o' j' = 8 + o' j
        · rw [e, pk_us]
        · rw [pk_un e]
          refine k2 j' hj1 ?_
          rcases Nat.lt_or_ge j' j with y | y
          · exact y
          · exact absurd (show 8 + o' j' = 8 + o' j by rw [show j' = j by omega]) e
      · rw [pk_un (h2 j (by omega) (by omega))]
        exact k3 t h1 (fun j' y1 y2 => h2 j' y1 (by omega))
  · rintro n i s hi ⟨hPi, h1, h2⟩ hw
    refine pk_le p i (fun z => absurd z (by omega)) (fun _ => ?_)
    obtain ⟨ho, ha⟩ := hO.1 i (by omega)
    rw [nI_clamp (n := i) (by omega), ha, nI_clamp (n := o i) (by omega), cd_nar m (by omega)]
    refine ⟨pk_in i 16 (by omega), pk_in (o i) 16 (by omega), nm_e (nm_r (nI_1 i) (hw _ ⟨by omega, fun i' y1 y2 => ?_, fun t y1 => ?_⟩))⟩
    · by_cases e : o i' = o i
      · rw [e, pk_us]
      · rw [pk_un e]
        refine h1 i' y1 ?_
        rcases Nat.lt_or_ge i' i with y | y
        · exact y
        · exact absurd (show o i' = o i by rw [show i' = i by omega]) e
    · rw [pk_un (y1 i hPi (by omega))]
      exact h2 t (fun i' w1 w2 => y1 i' w1 (by omega))
end
end
section
/-! plain: four ranks, sums of degrees, beginnings that lack nothing -/
def cd_perm (o : Nat → Nat) : Prop := (∀ i, i < 4 → o i < 4) ∧ (∀ i j, i < 4 → j < 4 → o i = o j → i = j)
theorem cd_perm4 {o : Nat → Nat} (h : cd_perm o) (f : Nat → Nat) : f (o 0) + f (o 1) + f (o 2) + f (o 3) = f 0 + f 1 + f 2 + f 3 := by
  have n01 : o 0 ≠ o 1 := fun e => absurd (h.2 0 1 (by omega) (by omega) e) (by omega)
  have n02 : o 0 ≠ o 2 := fun e => absurd (h.2 0 2 (by omega) (by omega) e) (by omega)
  have n03 : o 0 ≠ o 3 := fun e => absurd (h.2 0 3 (by omega) (by omega) e) (by omega)
  have n12 : o 1 ≠ o 2 := fun e => absurd (h.2 1 2 (by omega) (by omega) e) (by omega)
  have n13 : o 1 ≠ o 3 := fun e => absurd (h.2 1 3 (by omega) (by omega) e) (by omega)
  have n23 : o 2 ≠ o 3 := fun e => absurd (h.2 2 3 (by omega) (by omega) e) (by omega)
  have four : ∀ k, k < 4 → k = 0 ∨ k = 1 ∨ k = 2 ∨ k = 3 := fun k hk => by omega
  rcases four _ (h.1 0 (by omega)) with e0 | e0 | e0 | e0 <;> rcases four _ (h.1 1 (by omega)) with e1 | e1 | e1 | e1 <;>
    first
    | exact absurd (e0.trans e1.symm) n01
    | (rcases four _ (h.1 2 (by omega)) with e2 | e2 | e2 | e2 <;>
        first
        | exact absurd (e0.trans e2.symm) n02
        | exact absurd (e1.trans e2.symm) n12
        | (rcases four _ (h.1 3 (by omega)) with e3 | e3 | e3 | e3 <;>
            first
            | exact absurd (e0.trans e3.symm) n03
            | exact absurd (e1.trans e3.symm) n13
            | exact absurd (e2.trans e3.symm) n23
            | (rw [e0, e1, e2, e3]; done)
            | (rw [e0, e1, e2, e3]; omega)))
theorem cd_surj {o : Nat → Nat} (h : cd_perm o) {c : Nat} (hc : c < 4) : ∃ i, i < 4 ∧ o i = c := by
  have e := cd_perm4 h (fun r => if r = c then 1 else 0)
  by_cases e0 : o 0 = c
  · exact ⟨0, by omega, e0⟩
  by_cases e1 : o 1 = c
  · exact ⟨1, by omega, e1⟩
  by_cases e2 : o 2 = c
  · exact ⟨2, by omega, e2⟩
  by_cases e3 : o 3 = c
  · exact ⟨3, by omega, e3⟩
  rw [if_neg e0, if_neg e1, if_neg e2, if_neg e3] at e
  exfalso
  have four : c = 0 ∨ c = 1 ∨ c = 2 ∨ c = 3 := by omega
  rcases four with rfl | rfl | rfl | rfl <;> exact absurd e (by decide)
def cd_m (a : Bool) (n : Nat) : Nat := if a = true then n else 0
def cd_w (a c : Bool) (y : Nat) : Nat := if a = true then (if c = true then 0 else 1 - y) else (if c = true then y else 0)
def cd_n4 (A : Nat → Bool) : Nat := (A 0).toNat + (A 1).toNat + (A 2).toNat + (A 3).toNat
def cd_s4 (A : Nat → Bool) (f : Nat → Nat) : Nat := cd_m (A 0) (f 0) + cd_m (A 1) (f 1) + cd_m (A 2) (f 2) + cd_m (A 3) (f 3)
def cd_w4 (A B : Nat → Bool) (y : Nat → Nat → Nat) (i : Nat) : Nat := cd_w (A i) (B 0) (y i 0) + cd_w (A i) (B 1) (y i 1) + cd_w (A i) (B 2) (y i 2) + cd_w (A i) (B 3) (y i 3)
theorem cd_pair (a c : Bool) {y : Nat} (hy : y ≤ 1) : cd_m a y + cd_m c (1 - y) + a.toNat * c.toNat + cd_w a c y = a.toNat + c.toNat := by
  have h : y = 0 ∨ y = 1 := by omega
  rcases h with rfl | rfl <;> cases a <;> cases c <;> rfl
theorem cd_m_add (a : Bool) (x y z w : Nat) : cd_m a (x + y + z + w) = cd_m a x + cd_m a y + cd_m a z + cd_m a w := by
  cases a <;> rfl
theorem cd_id {y : Nat → Nat → Nat} {al be : Nat → Nat} (hy : ∀ i j, y i j ≤ 1) (ha : ∀ i, i < 4 → al i = y i 0 + y i 1 + y i 2 + y i 3) (hb : ∀ j, j < 4 → be j + (y 0 j + y 1 j + y 2 j + y 3 j) = 4) (A B : Nat → Bool) :
    cd_s4 A al + cd_s4 B be + cd_n4 A * cd_n4 B + (cd_w4 A B y 0 + cd_w4 A B y 1 + cd_w4 A B y 2 + cd_w4 A B y 3) = 4 * cd_n4 A + 4 * cd_n4 B := by
  have hb' : ∀ j, j < 4 → be j = (1 - y 0 j) + (1 - y 1 j) + (1 - y 2 j) + (1 - y 3 j) := by
    intro j hj
    have h := hb j hj
    have h0 := hy 0 j
    have h1 := hy 1 j
    have h2 := hy 2 j
    have h3 := hy 3 j
    omega
  have p00 := cd_pair (A 0) (B 0) (hy 0 0)
  have p01 := cd_pair (A 0) (B 1) (hy 0 1)
  have p02 := cd_pair (A 0) (B 2) (hy 0 2)
  have p03 := cd_pair (A 0) (B 3) (hy 0 3)
  have p10 := cd_pair (A 1) (B 0) (hy 1 0)
  have p11 := cd_pair (A 1) (B 1) (hy 1 1)
  have p12 := cd_pair (A 1) (B 2) (hy 1 2)
  have p13 := cd_pair (A 1) (B 3) (hy 1 3)
  have p20 := cd_pair (A 2) (B 0) (hy 2 0)
  have p21 := cd_pair (A 2) (B 1) (hy 2 1)
  have p22 := cd_pair (A 2) (B 2) (hy 2 2)
  have p23 := cd_pair (A 2) (B 3) (hy 2 3)
  have p30 := cd_pair (A 3) (B 0) (hy 3 0)
  have p31 := cd_pair (A 3) (B 1) (hy 3 1)
  have p32 := cd_pair (A 3) (B 2) (hy 3 2)
  have p33 := cd_pair (A 3) (B 3) (hy 3 3)
  unfold cd_s4 cd_n4 cd_w4
  rw [ha 0 (by omega), ha 1 (by omega), ha 2 (by omega), ha 3 (by omega), hb' 0 (by omega), hb' 1 (by omega), hb' 2 (by omega), hb' 3 (by omega)]
  simp only [cd_m_add, Nat.add_mul, Nat.mul_add]
  clear ha hb hb' hy
  generalize (A 0).toNat * (B 0).toNat = q00 at *
  generalize (A 0).toNat * (B 1).toNat = q01 at *
  generalize (A 0).toNat * (B 2).toNat = q02 at *
  generalize (A 0).toNat * (B 3).toNat = q03 at *
  generalize (A 1).toNat * (B 0).toNat = q10 at *
  generalize (A 1).toNat * (B 1).toNat = q11 at *
  generalize (A 1).toNat * (B 2).toNat = q12 at *
  generalize (A 1).toNat * (B 3).toNat = q13 at *
  generalize (A 2).toNat * (B 0).toNat = q20 at *
  generalize (A 2).toNat * (B 1).toNat = q21 at *
  generalize (A 2).toNat * (B 2).toNat = q22 at *
  generalize (A 2).toNat * (B 3).toNat = q23 at *
  generalize (A 3).toNat * (B 0).toNat = q30 at *
  generalize (A 3).toNat * (B 1).toNat = q31 at *
  generalize (A 3).toNat * (B 2).toNat = q32 at *
  generalize (A 3).toNat * (B 3).toNat = q33 at *
  omega
theorem cd_n4_le (A : Nat → Bool) : cd_n4 A ≤ 4 := by
  have h : ∀ x : Bool, x.toNat ≤ 1 := by decide
  have h0 := h (A 0)
  have h1 := h (A 1)
  have h2 := h (A 2)
  have h3 := h (A 3)
  unfold cd_n4
  omega
theorem cd_five {p : Nat} (h : p ≤ 4) : p = 0 ∨ p = 1 ∨ p = 2 ∨ p = 3 ∨ p = 4 := by omega
theorem cd_n4_lo {p : Nat} (h : p ≤ 4) : cd_n4 (fun i => decide (i < p)) = p := by
  rcases cd_five h with rfl | rfl | rfl | rfl | rfl <;> rfl
theorem cd_s4_lo {p : Nat} (h : p ≤ 4) (f : Nat → Nat) : cd_s4 (fun i => decide (i < p)) f = cd_sum f p := by
  rcases cd_five h with rfl | rfl | rfl | rfl | rfl <;> simp [cd_s4, cd_m, cd_sum]
theorem cd_top {f : Nat → Nat} (hs : ∀ i j, i < j → j < 4 → f j ≤ f i) (A : Nat → Bool) : cd_s4 A f ≤ cd_sum f (cd_n4 A) := by
  have h1 := hs 0 1 (by omega) (by omega)
  have h2 := hs 1 2 (by omega) (by omega)
  have h3 := hs 2 3 (by omega) (by omega)
  unfold cd_s4 cd_n4
  generalize A 0 = x0
  generalize A 1 = x1
  generalize A 2 = x2
  generalize A 3 = x3
  cases x0 <;> cases x1 <;> cases x2 <;> cases x3 <;> simp only [cd_m, cd_sum, Bool.toNat_true, Bool.toNat_false, if_true, if_false, Bool.false_eq_true, Nat.zero_add, Nat.add_zero, Nat.reduceAdd] <;> omega
/-- the beginning (p, q) lacks nothing: its threads lie above all others that they cross -/
theorem cd_zcl {y : Nat → Nat → Nat} {al be : Nat → Nat} (hy : ∀ i j, y i j ≤ 1) (ha : ∀ i, i < 4 → al i = y i 0 + y i 1 + y i 2 + y i 3) (hb : ∀ j, j < 4 → be j + (y 0 j + y 1 j + y 2 j + y 3 j) = 4) {p q : Nat} (hp : p ≤ 4) (hq : q ≤ 4) :
    cd_sum al p + cd_sum be q + p * q = 4 * p + 4 * q ↔ ∀ i j, i < 4 → j < 4 → (i < p → q ≤ j → y i j = 1) ∧ (p ≤ i → j < q → y i j = 0) := by
  have I := cd_id hy ha hb (fun i => decide (i < p)) (fun j => decide (j < q))
  rw [cd_s4_lo hp, cd_s4_lo hq, cd_n4_lo hp, cd_n4_lo hq] at I
  constructor
  · intro h
    have hw : ∀ i j, i < 4 → j < 4 → cd_w (decide (i < p)) (decide (j < q)) (y i j) = 0 := by
      unfold cd_w4 at I
      dsimp only at I
      have four : ∀ k, k < 4 → k = 0 ∨ k = 1 ∨ k = 2 ∨ k = 3 := fun k hk => by omega
      intro i j hi hj
      rcases four i hi with rfl | rfl | rfl | rfl <;> rcases four j hj with rfl | rfl | rfl | rfl <;> omega
    intro i j hi hj
    have w := hw i j hi hj
    have y1 := hy i j
    constructor
    · intro h1 h2
      rw [decide_eq_true h1, decide_eq_false (by omega)] at w
      have w' : 1 - y i j = 0 := w
      omega
    · intro h1 h2
      rw [decide_eq_false (by omega), decide_eq_true h2] at w
      exact w
  · intro h
    have hw : ∀ i j, i < 4 → j < 4 → cd_w (decide (i < p)) (decide (j < q)) (y i j) = 0 := by
      intro i j hi hj
      obtain ⟨h1, h2⟩ := h i j hi hj
      rcases Nat.lt_or_ge i p with z | z <;> rcases Nat.lt_or_ge j q with z' | z'
      · rw [decide_eq_true z, decide_eq_true z']
        rfl
      · rw [decide_eq_true z, decide_eq_false (by omega), h1 z z']
        rfl
      · rw [decide_eq_false (by omega), decide_eq_true z', h2 z z']
        rfl
      · rw [decide_eq_false (by omega), decide_eq_false (by omega)]
        rfl
    have w4 : ∀ i, i < 4 → cd_w4 (fun i => decide (i < p)) (fun j => decide (j < q)) y i = 0 := by
      intro i hi
      unfold cd_w4
      dsimp only
      rw [hw i 0 hi (by omega), hw i 1 hi (by omega), hw i 2 hi (by omega), hw i 3 hi (by omega)]
    rw [w4 0 (by omega), w4 1 (by omega), w4 2 (by omega), w4 3 (by omega)] at I
    omega
/-- a set that can be lifted off has as many warps and wefts as a beginning that lacks nothing -/
theorem cd_zset {y : Nat → Nat → Nat} {al be : Nat → Nat} (hy : ∀ i j, y i j ≤ 1) (ha : ∀ i, i < 4 → al i = y i 0 + y i 1 + y i 2 + y i 3) (hb : ∀ j, j < 4 → be j + (y 0 j + y 1 j + y 2 j + y 3 j) = 4)
    (sa : ∀ i j, i < j → j < 4 → al j ≤ al i) (sb : ∀ i j, i < j → j < 4 → be j ≤ be i) (A B : Nat → Bool) (h : ∀ i j, i < 4 → j < 4 → cd_w (A i) (B j) (y i j) = 0) :
    cd_sum al (cd_n4 A) + cd_sum be (cd_n4 B) + cd_n4 A * cd_n4 B = 4 * cd_n4 A + 4 * cd_n4 B := by
  have I := cd_id hy ha hb A B
  have w4 : ∀ i, i < 4 → cd_w4 A B y i = 0 := by
    intro i hi
    unfold cd_w4
    rw [h i 0 hi (by omega), h i 1 hi (by omega), h i 2 hi (by omega), h i 3 hi (by omega)]
  rw [w4 0 (by omega), w4 1 (by omega), w4 2 (by omega), w4 3 (by omega)] at I
  have T1 := cd_top sa A
  have T2 := cd_top sb B
  have hp := cd_n4_le A
  have hq := cd_n4_le B
  generalize cd_n4 A = p at *
  generalize cd_n4 B = q at *
  have J := cd_id hy ha hb (fun i => decide (i < p)) (fun j => decide (j < q))
  rw [cd_s4_lo hp, cd_s4_lo hq, cd_n4_lo hp, cd_n4_lo hq] at J
  omega
/-- o and o' put warps and wefts in order -/
def cd_So (b : Nat → Bool) (o o' : Nat → Nat) : Prop := cd_perm o ∧ cd_perm o' ∧ (∀ i j, i < j → j < 4 → cd_g b (o j) ≤ cd_g b (o i)) ∧ (∀ i j, i < j → j < 4 → cd_g b (8 + o' j) ≤ cd_g b (8 + o' i))
def cd_y (b : Nat → Bool) (o o' : Nat → Nat) (i j : Nat) : Nat := (b (4 * o' j + o i)).toNat
theorem cd_y_le (b : Nat → Bool) (o o' : Nat → Nat) (i j : Nat) : cd_y b o o' i j ≤ 1 := Bool.toNat_le _
theorem cd_ga {b : Nat → Bool} {o o' : Nat → Nat} (h : cd_So b o o') : ∀ i, i < 4 → cd_g b (o i) = cd_y b o o' i 0 + cd_y b o o' i 1 + cd_y b o o' i 2 + cd_y b o o' i 3 := by
  intro i hi
  rw [cd_g_w b (h.1.1 i hi)]
  exact (cd_perm4 h.2.1 (fun r => (b (4 * r + o i)).toNat)).symm
theorem cd_gb {b : Nat → Bool} {o o' : Nat → Nat} (h : cd_So b o o') : ∀ j, j < 4 → cd_g b (8 + o' j) + (cd_y b o o' 0 j + cd_y b o o' 1 j + cd_y b o o' 2 j + cd_y b o o' 3 j) = 4 := by
  intro j hj
  have e := cd_perm4 h.1 (fun c => (b (4 * o' j + c)).toNat)
  unfold cd_y
  rw [cd_g_f b (h.2.1.1 j hj), e]
  have key : ∀ x : Bool, (!x).toNat + x.toNat = 1 := by decide
  have k0 := key (b (4 * o' j + 0))
  have k1 := key (b (4 * o' j + 1))
  have k2 := key (b (4 * o' j + 2))
  have k3 := key (b (4 * o' j + 3))
  omega
theorem cd_zrk {b : Nat → Bool} {o o' : Nat → Nat} (h : cd_So b o o') {p q : Nat} (hp : p ≤ 4) (hq : q ≤ 4) : cd_z b o o' p q ↔ ∀ i j, i < 4 → j < 4 → (i < p → q ≤ j → b (4 * o' j + o i) = true) ∧ (p ≤ i → j < q → b (4 * o' j + o i) = false) := by
  unfold cd_z
  rw [cd_zcl (cd_y_le b o o') (cd_ga h) (cd_gb h) hp hq]
  have k1 : ∀ x : Bool, x.toNat = 1 ↔ x = true := by decide
  have k0 : ∀ x : Bool, x.toNat = 0 ↔ x = false := by decide
  unfold cd_y
  constructor
  · intro H i j hi hj
    exact ⟨fun a c => (k1 _).mp ((H i j hi hj).1 a c), fun a c => (k0 _).mp ((H i j hi hj).2 a c)⟩
  · intro H i j hi hj
    exact ⟨fun a c => (k1 _).mpr ((H i j hi hj).1 a c), fun a c => (k0 _).mpr ((H i j hi hj).2 a c)⟩
theorem cd_z44 {b : Nat → Bool} {o o' : Nat → Nat} (h : cd_So b o o') : cd_z b o o' 4 4 :=
  (cd_zrk h (by omega) (by omega)).mpr (fun i j hi hj => ⟨fun _ z => absurd z (by omega), fun z => absurd z (by omega)⟩)
theorem cd_zcs {b : Nat → Bool} {o o' : Nat → Nat} (h : cd_So b o o') {S : Nat → Prop} (hS : cd_cl b S) {A B : Nat → Bool} (hA : ∀ i, i < 4 → (A i = true ↔ S (o i))) (hB : ∀ j, j < 4 → (B j = true ↔ S (8 + o' j))) : cd_z b o o' (cd_n4 A) (cd_n4 B) := by
  refine cd_zset (cd_y_le b o o') (cd_ga h) (cd_gb h) h.2.2.1 h.2.2.2 A B (fun i j hi hj => ?_)
  obtain ⟨c1, c2⟩ := hS (o i) (o' j) (h.1.1 i hi) (h.2.1.1 j hj)
  have a1 := hA i hi
  have b1 := hB j hj
  unfold cd_y
  cases hx : b (4 * o' j + o i) <;> cases ha : A i <;> cases hb : B j <;> rw [ha] at a1 <;> rw [hb] at b1 <;> first | rfl | skip
  · exact absurd (b1.mpr (c2 hx (a1.mp rfl))) (by decide)
  · exact absurd (a1.mpr (c1 hx (b1.mp rfl))) (by decide)
end
section
/-! findSteps: a chain of beginnings that lack nothing, none between two neighbours -/
def cd_ch (z : Nat → Nat → Prop) (m : Nat) (P Q : Nat → Nat) : Prop :=
  P 0 = 0 ∧ Q 0 = 0 ∧ (∀ s, s ≤ m → P s ≤ 4 ∧ Q s ≤ 4) ∧
  (∀ s, s < m → P s ≤ P (s + 1) ∧ Q s ≤ Q (s + 1) ∧ P s + Q s < P (s + 1) + Q (s + 1) ∧ z (P (s + 1)) (Q (s + 1)) ∧
    ∀ p q, P s ≤ p → Q s ≤ q → p ≤ 4 → q ≤ 4 → P s + Q s < p + q → p + q < P (s + 1) + Q (s + 1) → ¬ z p q)
theorem cd_ch_mono {z : Nat → Nat → Prop} {m : Nat} {P Q : Nat → Nat} (h : cd_ch z m P Q) : ∀ d s, s + d ≤ m → P s ≤ P (s + d) ∧ Q s ≤ Q (s + d)
  | 0, s, _ => ⟨Nat.le_refl _, Nat.le_refl _⟩
  | d + 1, s, hd => by
    have h1 := cd_ch_mono h d s (by omega)
    have h2 := h.2.2.2 (s + d) (by omega)
    exact ⟨Nat.le_trans h1.1 h2.1, Nat.le_trans h1.2 h2.2.1⟩
theorem cd_ch_mono' {z : Nat → Nat → Prop} {m : Nat} {P Q : Nat → Nat} (h : cd_ch z m P Q) {s s' : Nat} (h1 : s ≤ s') (h2 : s' ≤ m) : P s ≤ P s' ∧ Q s ≤ Q s' := by
  have k := cd_ch_mono h (s' - s) s (by omega)
  rw [show s + (s' - s) = s' by omega] at k
  exact k
theorem cd_ch_ge {z : Nat → Nat → Prop} {m : Nat} {P Q : Nat → Nat} (h : cd_ch z m P Q) : ∀ s, s ≤ m → s ≤ P s + Q s
  | 0, _ => Nat.zero_le _
  | s + 1, hs => by
    have h1 := cd_ch_ge h s (by omega)
    have h2 := (h.2.2.2 s (by omega)).2.2.1
    omega
theorem cd_ch_m {z : Nat → Nat → Prop} {m : Nat} {P Q : Nat → Nat} (h : cd_ch z m P Q) : m ≤ 8 := by
  have h1 := cd_ch_ge h m (Nat.le_refl m)
  have h2 := h.2.2.1 m (Nat.le_refl m)
  omega
def cd_ar (o o' : Nat → Nat) (m : Nat) (P Q : Nat → Nat) (a6 a7 a8 : Nat → Int32) : Prop := ∀ s, s < m → (∀ i, P s ≤ i → i < P (s + 1) → a6 (o i) = nI s) ∧ (∀ j, Q s ≤ j → j < Q (s + 1) → a6 (8 + o' j) = nI s) ∧ a7 s = nI (P (s + 1) - P s + (Q (s + 1) - Q s)) ∧ a8 s = (if P s < P (s + 1) then 1 else 0)
def cd_ex (P : Nat → Nat) (m p : Nat) : Nat → Nat := fun s => if s = m + 1 then p else P s
theorem cd_ex_e {P : Nat → Nat} {m p : Nat} : cd_ex P m p (m + 1) = p := if_pos rfl
theorem cd_ex_l {P : Nat → Nat} {m p s : Nat} (h : s ≤ m) : cd_ex P m p s = P s := if_neg (by omega)
theorem cd_ch_ext {z : Nat → Nat → Prop} {m : Nat} {P Q : Nat → Nat} (h : cd_ch z m P Q) {p q : Nat} (hP : P m ≤ p) (hQ : Q m ≤ q) (hp : p ≤ 4) (hq : q ≤ 4) (hs : P m + Q m < p + q) (hz : z p q)
    (hn : ∀ p' q', P m ≤ p' → Q m ≤ q' → p' ≤ 4 → q' ≤ 4 → P m + Q m < p' + q' → p' + q' < p + q → ¬ z p' q') : cd_ch z (m + 1) (cd_ex P m p) (cd_ex Q m q) := by
  obtain ⟨h1, h2, h3, h4⟩ := h
  refine ⟨by rw [cd_ex_l (by omega)]; exact h1, by rw [cd_ex_l (by omega)]; exact h2, fun s hs => ?_, fun s hs => ?_⟩
  · rcases Nat.lt_or_ge s (m + 1) with y | y
    · rw [cd_ex_l (by omega), cd_ex_l (by omega)]
      exact h3 s (by omega)
    · rw [show s = m + 1 by omega, cd_ex_e, cd_ex_e]
      exact ⟨hp, hq⟩
  · rcases Nat.lt_or_ge s m with y | y
    · rw [cd_ex_l (s := s) (by omega), cd_ex_l (s := s) (by omega), cd_ex_l (s := s + 1) (by omega), cd_ex_l (s := s + 1) (by omega)]
      exact h4 s y
    · rw [show s = m by omega, cd_ex_l (s := m) (by omega), cd_ex_l (s := m) (by omega), cd_ex_e, cd_ex_e]
      exact ⟨hP, hQ, by omega, hz, hn⟩
theorem cd_ar_ext {z : Nat → Nat → Prop} {o o' : Nat → Nat} {m : Nat} {P Q : Nat → Nat} {a6 a7 a8 a6' : Nat → Int32} (ho : cd_perm o) (ho' : cd_perm o') (h : cd_ch z m P Q) (ha : cd_ar o o' m P Q a6 a7 a8) {p q : Nat} (hp : p ≤ 4) (hq : q ≤ 4)
    (c1 : ∀ i, P m ≤ i → i < p → a6' (o i) = nI m) (c2 : ∀ j, Q m ≤ j → j < q → a6' (8 + o' j) = nI m) (c3 : ∀ t, (∀ i, P m ≤ i → i < p → t ≠ o i) → (∀ j, Q m ≤ j → j < q → t ≠ 8 + o' j) → a6' t = a6 t) :
    cd_ar o o' (m + 1) (cd_ex P m p) (cd_ex Q m q) a6' (upd a7 m (nI (p - P m + (q - Q m)))) (upd a8 m (if P m < p then 1 else 0)) := by
  intro s hs
  rcases Nat.lt_or_ge s m with y | y
  · rw [cd_ex_l (s := s) (by omega), cd_ex_l (s := s) (by omega), cd_ex_l (s := s + 1) (by omega), cd_ex_l (s := s + 1) (by omega), pk_un (by omega), pk_un (by omega)]
    obtain ⟨k1, k2, k3, k4⟩ := ha s y
    have mo := cd_ch_mono' h (s := s + 1) (s' := m) (by omega) (Nat.le_refl m)
    have b4 := h.2.2.1 m (Nat.le_refl m)
    refine ⟨fun i hi hi' => ?_, fun j hj hj' => ?_, k3, k4⟩
    · rw [c3 (o i) (fun i' y1 y2 e => ?_) (fun j y1 y2 e => ?_)]
      · exact k1 i hi hi'
      · have := ho.2 i i' (by omega) (by omega) e
        omega
      · have := ho.1 i (by omega)
        omega
    · rw [c3 (8 + o' j) (fun i' y1 y2 e => ?_) (fun j' y1 y2 e => ?_)]
      · exact k2 j hj hj'
      · have := ho.1 i' (by omega)
        omega
      · have := ho'.2 j j' (by omega) (by omega) (by omega)
        omega
  · rw [show s = m by omega, cd_ex_l (s := m) (by omega), cd_ex_l (s := m) (by omega), cd_ex_e, cd_ex_e, pk_us, pk_us]
    exact ⟨c1, c2, rfl, rfl⟩
theorem cd_dv {p q k : Nat} (e : 5 * (p + q) + p = k) (h : p ≤ 4) : k / 5 = p + q ∧ k % 5 = p := by
  subst e
  constructor
  · omega
  · omega
section
variable {b : Nat → Bool} {post : St2 → Prop} {st : Int32} {a1 a2 a3 a4 a5 a6 a7 a8 : Nat → Int32} {o o' : Nat → Nat}
def cd_fI (b : Nat → Bool) (o o' : Nat → Nat) (k m : Nat) (P Q : Nat → Nat) (a6 a7 a8 : Nat → Int32) : Prop := cd_ch (cd_z b o o') m P Q ∧ cd_ar o o' m P Q a6 a7 a8 ∧ ∀ p q, P m ≤ p → Q m ≤ q → p ≤ 4 → q ≤ 4 → P m + Q m < p + q → 5 * (p + q) + p < k → ¬ cd_z b o o' p q
theorem cd_fstep (hS : cd_So b o o') (hU : cd_U b a4) (hO : cd_O a5 o o') {n k m : Nat} {P Q : Nat → Nat} (hk : k < 45)
    (hw : ∀ m' P' Q' a6' a7' a8', cd_fI b o o' (k + 1) m' P' Q' a6' a7' a8' → wX_findSteps_34 post n (nI (P' m')) (nI (Q' m')) (nI (k + 1)) 4 4 (nI m') a1 a2 a3 a4 a5 a6' a7' a8')
    (hI : cd_fI b o o' k m P Q a6 a7 a8) : wX_findSteps_34 post (n + 1) (nI (P m)) (nI (Q m)) (nI k) 4 4 (nI m) a1 a2 a3 a4 a5 a6 a7 a8 := by
  obtain ⟨h1, h2, h3⟩ := hI
  have B := h1.2.2.1 m (Nat.le_refl m)
  have hm := cd_ch_m h1
  have skip : (∀ p q, P m ≤ p → Q m ≤ q → p ≤ 4 → q ≤ 4 → P m + Q m < p + q → 5 * (p + q) + p = k → ¬ cd_z b o o' p q) → wX_findSteps_34 post n (nI (P m)) (nI (Q m)) (nI (k + 1)) 4 4 (nI m) a1 a2 a3 a4 a5 a6 a7 a8 := by
    intro hz
    refine hw m P Q a6 a7 a8 ⟨h1, h2, fun p q g1 g2 g3 g4 g5 g6 => ?_⟩
    rcases Nat.lt_or_ge (5 * (p + q) + p) k with y | y
    · exact h3 p q g1 g2 g3 g4 g5 y
    · exact hz p q g1 g2 g3 g4 g5 (by omega)
  have e5 : (4 : Int32) + 1 = nI 5 := by decide
  have ed : nI k / (4 + 1) = nI (k / 5) := by rw [e5]; exact pk_div (by omega) (by omega) (by omega)
  refine pk_le 45 k (fun z => absurd z (by omega)) (fun _ => ⟨by decide, nm_r (e' := nI (k % 5)) (by rw [e5]; exact pk_rem (by omega) (by omega) (by omega)) ⟨by decide, ?_⟩⟩) (hx := by decide)
  rcases Nat.lt_or_ge (k / 5) (k % 5) with hq | hq
  · exact nm_r (by rw [ed]) (br_t (pk_sneg (by omega) hq) (nm_r (nI_1 k) (skip (fun p q g1 g2 g3 g4 g5 e => by have d := cd_dv e g3; omega))))
  refine nm_r (e' := nI (k / 5 - k % 5)) (by rw [ed, pk_sub hq]) (br_f (nI_pos (by omega)) ?_)
  refine pk_lt 4 (k / 5 - k % 5) (fun z => nm_r (nI_1 k) (skip (fun p q g1 g2 g3 g4 g5 e => by have d := cd_dv e g3; omega))) (fun z1 => ?_)
  refine pk_lt (k % 5) (P m) (fun z => nm_r (nI_1 k) (skip (fun p q g1 g2 g3 g4 g5 e => by have d := cd_dv e g3; omega))) (fun z2 => ?_)
  refine pk_lt (k / 5 - k % 5) (Q m) (fun z => nm_r (nI_1 k) (skip (fun p q g1 g2 g3 g4 g5 e => by have d := cd_dv e g3; omega))) (fun z3 => ?_)
  refine pk_le (k % 5 + (k / 5 - k % 5)) (P m + Q m) (fun z => nm_r (nI_1 k) (skip (fun p q g1 g2 g3 g4 g5 e => by have d := cd_dv e g3; omega))) (fun z4 => ?_) (hx := nI_add _ _) (hy := nI_add _ _)
  refine cd_lack hU hO (by omega) (by omega) (fun r hr => br_c (fun h0 => ?_) (fun h0 => nm_r (nI_1 k) (skip (fun p q g1 g2 g3 g4 g5 e => ?_))))
  · refine cd_close hO (by omega) z2 (by omega) z3 (by omega) (fun a6' c1 c2 c3 => nm_r (nI_1 k) ?_)
    have T := hw (m + 1) (cd_ex P m (k % 5)) (cd_ex Q m (k / 5 - k % 5)) a6' _ _ ⟨cd_ch_ext h1 z2 z3 (by omega) (by omega) z4 (hr.mp h0) (fun p' q' g1 g2 g3 g4 g5 g6 => h3 p' q' g1 g2 g3 g4 g5 (by omega)), cd_ar_ext hS.1 hS.2.1 h1 h2 (by omega) (by omega) c1 c2 c3, fun p q g1 g2 g3 g4 g5 g6 => ?_⟩
    · rw [cd_ex_e, cd_ex_e] at T
      exact T
    · rw [cd_ex_e, cd_ex_e] at g5
      omega
  · rw [show p = k % 5 by omega, show q = k / 5 - k % 5 by omega]
    exact fun hz => h0 (hr.mpr hz)
/-- findSteps: whatever stood there before -/
theorem cd_find (hK : cd_K b a1 a2 a3) (H : ∀ m o o' P Q a4 a5 a6 a7 a8, cd_So b o o' → cd_ch (cd_z b o o') m P Q → P m = 4 → Q m = 4 → cd_ar o o' m P Q a6 a7 a8 → post (4, 4, nI m, a1, a2, a3, a4, a5, a6, a7, a8)) : wpX_findSteps post (4, 4, st, a1, a2, a3, a4, a5, a6, a7, a8) := by
  unfold wpX_findSteps
  refine cd_fu hK (fun u4 hU => ?_)
  refine cd_sort (first := 0) hU (by omega) (fun s5 hs5 _ => ?_)
  refine cd_sort (first := 8) hU (by omega) (fun t5 ht5 hfr => ?_)
  obtain ⟨o, h1, h2, h3⟩ := hs5
  obtain ⟨o', k1, k2, k3⟩ := ht5
  have hO : cd_O t5 o o' := ⟨fun i hi => ⟨(h1 i hi).1, by
    have e := (h1 i hi).2
    rw [Nat.zero_add, Nat.zero_add] at e
    rw [hfr i (by omega)]
    exact e⟩, fun j hj => k1 j hj⟩
  have hS : cd_So b o o' := ⟨⟨fun i hi => (h1 i hi).1, h2⟩, ⟨fun i hi => (k1 i hi).1, k2⟩, fun i j hij hj => by
    have e := h3 i j hij hj
    rw [Nat.zero_add, Nat.zero_add] at e
    exact e, k3⟩
  refine pk_loop (fun n k (s : Nat × (Nat → Nat) × (Nat → Nat) × (Nat → Int32) × (Nat → Int32) × (Nat → Int32)) => wX_findSteps_34 post n (nI (s.2.1 s.1)) (nI (s.2.2.1 s.1)) (nI k) 4 4 (nI s.1) a1 a2 a3 u4 t5 s.2.2.2.1 s.2.2.2.2.1 s.2.2.2.2.2)
    (fun k s => cd_fI b o o' k s.1 s.2.1 s.2.2.1 s.2.2.2.1 s.2.2.2.2.1 s.2.2.2.2.2) 45 1 (0, fun _ => 0, fun _ => 0, a6, a7, a8) (by omega) ?_ ?_ ?_
  · exact ⟨⟨rfl, rfl, fun _ _ => ⟨Nat.zero_le 4, Nat.zero_le 4⟩, fun s hs => absurd hs (by omega)⟩, fun s hs => absurd hs (by omega), fun p q g1 g2 g3 g4 g5 g6 => absurd g5 (by omega)⟩
  · rintro n ⟨m, P, Q, a6, a7, a8⟩ ⟨c1, c2, c3⟩
    dsimp only at c1 c2 c3
    have B := c1.2.2.1 m (Nat.le_refl m)
    have E : P m = 4 ∧ Q m = 4 := by
      rcases Nat.lt_or_ge (P m + Q m) 8 with y | y
      · exact absurd (cd_z44 hS) (c3 4 4 (by omega) (by omega) (by omega) (by omega) (by omega) (by omega))
      · omega
    exact pk_le 45 45 (fun _ => H m o o' P Q u4 t5 a6 a7 a8 hS c1 E.1 E.2 c2) (fun z => absurd z (by omega)) (hx := by decide)
  · rintro n k ⟨m, P, Q, a6, a7, a8⟩ hk hI hw
    exact cd_fstep hS hU hO hk (fun m' P' Q' a6' a7' a8' h => hw (m', P', Q', a6', a7', a8') h) hI
end
end
section
/-! plain law A: the steps are what can't be parted -/
def cd_F (b : Nat → Bool) (o o' : Nat → Nat) (m : Nat) (P Q : Nat → Nat) : Prop := cd_So b o o' ∧ cd_ch (cd_z b o o') m P Q ∧ P m = 4 ∧ Q m = 4
/-- thread t is of step s -/
def cd_D (o o' P Q : Nat → Nat) (s t : Nat) : Prop := (∃ i, i < 4 ∧ P s ≤ i ∧ i < P (s + 1) ∧ t = o i) ∨ (∃ j, j < 4 ∧ Q s ≤ j ∧ j < Q (s + 1) ∧ t = 8 + o' j)
/-- thread t is of a step before s -/
def cd_T (o o' P Q : Nat → Nat) (s t : Nat) : Prop := (∃ i, i < 4 ∧ i < P s ∧ t = o i) ∨ (∃ j, j < 4 ∧ j < Q s ∧ t = 8 + o' j)
section
variable {b : Nat → Bool} {o o' P Q : Nat → Nat} {m : Nat}
theorem cd_To (h : cd_F b o o' m P Q) {s i : Nat} (hi : i < 4) : cd_T o o' P Q s (o i) ↔ i < P s := by
  constructor
  · rintro (⟨i', h1, h2, h3⟩ | ⟨j, h1, h2, h3⟩)
    · have := h.1.1.2 i i' hi h1 h3
      omega
    · have := h.1.1.1 i hi
      omega
  · intro z
    exact Or.inl ⟨i, hi, z, rfl⟩
theorem cd_Tf (h : cd_F b o o' m P Q) {s j : Nat} (hj : j < 4) : cd_T o o' P Q s (8 + o' j) ↔ j < Q s := by
  constructor
  · rintro (⟨i', h1, h2, h3⟩ | ⟨j', h1, h2, h3⟩)
    · have := h.1.1.1 i' h1
      omega
    · have := h.1.2.1.2 j j' hj h1 (by omega)
      omega
  · intro z
    exact Or.inr ⟨j, hj, z, rfl⟩
theorem cd_zs (h : cd_F b o o' m P Q) {s : Nat} (hs : s ≤ m) : cd_z b o o' (P s) (Q s) := by
  cases s with
  | zero =>
    rw [h.2.1.1, h.2.1.2.1]
    rfl
  | succ s => exact (h.2.1.2.2.2 s (by omega)).2.2.2.1
theorem cd_zr (h : cd_F b o o' m P Q) {s : Nat} (hs : s ≤ m) : ∀ i j, i < 4 → j < 4 → (i < P s → Q s ≤ j → b (4 * o' j + o i) = true) ∧ (P s ≤ i → j < Q s → b (4 * o' j + o i) = false) :=
  (cd_zrk h.1 (h.2.1.2.2.1 s hs).1 (h.2.1.2.2.1 s hs).2).mp (cd_zs h hs)
theorem cd_Tcl (h : cd_F b o o' m P Q) {s : Nat} (hs : s ≤ m) : cd_cl b (cd_T o o' P Q s) := by
  intro c r hc hr
  obtain ⟨i, hi, ei⟩ := cd_surj h.1.1 hc
  obtain ⟨j, hj, ej⟩ := cd_surj h.1.2.1 hr
  obtain ⟨z1, z2⟩ := cd_zr h hs i j hi hj
  rw [← ei, ← ej, cd_To h hi, cd_Tf h hj]
  constructor
  · intro hb hq
    rcases Nat.lt_or_ge i (P s) with y | y
    · exact y
    · rw [z2 y hq] at hb
      exact absurd hb (by decide)
  · intro hb hp
    rcases Nat.lt_or_ge j (Q s) with y | y
    · exact y
    · rw [z1 hp y] at hb
      exact absurd hb (by decide)
theorem cd_Dth (h : cd_F b o o' m P Q) {s t : Nat} (hD : cd_D o o' P Q s t) : cd_th t := by
  rcases hD with ⟨i, h1, _, _, h4⟩ | ⟨j, h1, _, _, h4⟩
  · have := h.1.1.1 i h1
    exact Or.inl (by omega)
  · have := h.1.2.1.1 j h1
    exact Or.inr (by omega)
theorem cd_TD (h : cd_F b o o' m P Q) {s s' t : Nat} (hs : s < m) (hs' : s' ≤ m) (hD : cd_D o o' P Q s t) : cd_T o o' P Q s' t ↔ s < s' := by
  rcases hD with ⟨i, h1, h2, h3, h4⟩ | ⟨j, h1, h2, h3, h4⟩
  · rw [h4, cd_To h h1]
    constructor
    · intro z
      rcases Nat.lt_or_ge s s' with y | y
      · exact y
      · have := (cd_ch_mono' h.2.1 y (by omega)).1
        omega
    · intro z
      have := (cd_ch_mono' h.2.1 (show s + 1 ≤ s' by omega) hs').1
      omega
  · rw [h4, cd_Tf h h1]
    constructor
    · intro z
      rcases Nat.lt_or_ge s s' with y | y
      · exact y
      · have := (cd_ch_mono' h.2.1 y (by omega)).2
        omega
    · intro z
      have := (cd_ch_mono' h.2.1 (show s + 1 ≤ s' by omega) hs').2
      omega
theorem cd_D1 (h : cd_F b o o' m P Q) {s s' t : Nat} (hs : s < m) (hs' : s' < m) (hD : cd_D o o' P Q s t) (hD' : cd_D o o' P Q s' t) : s = s' := by
  have h1 := cd_TD h hs (show s' ≤ m by omega) hD
  have h2 := cd_TD h hs' (show s' ≤ m by omega) hD'
  have h3 := cd_TD h hs (show s ≤ m by omega) hD
  have h4 := cd_TD h hs' (show s ≤ m by omega) hD'
  rcases Nat.lt_trichotomy s s' with z | z | z
  · exact absurd (h2.mp (h1.mpr z)) (by omega)
  · exact z
  · exact absurd (h3.mp (h4.mpr z)) (by omega)
theorem cd_find_s {f : Nat → Nat} {i : Nat} (h0 : f 0 ≤ i) : ∀ m, i < f m → ∃ s, s < m ∧ f s ≤ i ∧ i < f (s + 1)
  | 0, h => absurd h (by omega)
  | m + 1, h => by
    rcases Nat.lt_or_ge i (f m) with y | y
    · obtain ⟨s, h1, h2, h3⟩ := cd_find_s h0 m y
      exact ⟨s, by omega, h2, h3⟩
    · exact ⟨m, by omega, y, h⟩
theorem cd_Dex (h : cd_F b o o' m P Q) {t : Nat} (ht : cd_th t) : ∃ s, s < m ∧ cd_D o o' P Q s t := by
  rcases ht with ht | ht
  · obtain ⟨i, hi, ei⟩ := cd_surj h.1.1 ht
    obtain ⟨s, h1, h2, h3⟩ := cd_find_s (f := P) (i := i) (by rw [h.2.1.1]; omega) m (by rw [h.2.2.1]; exact hi)
    exact ⟨s, h1, Or.inl ⟨i, hi, h2, h3, ei.symm⟩⟩
  · obtain ⟨j, hj, ej⟩ := cd_surj h.1.2.1 (c := t - 8) (by omega)
    obtain ⟨s, h1, h2, h3⟩ := cd_find_s (f := Q) (i := j) (by rw [h.2.1.2.1]; omega) m (by rw [h.2.2.2]; exact hj)
    exact ⟨s, h1, Or.inr ⟨j, hj, h2, h3, by omega⟩⟩
theorem cd_Tth (h : cd_F b o o' m P Q) {s t : Nat} (hT : cd_T o o' P Q s t) : cd_th t := by
  rcases hT with ⟨i, h1, _, h4⟩ | ⟨j, h1, _, h4⟩
  · have := h.1.1.1 i h1
    exact Or.inl (by omega)
  · have := h.1.2.1.1 j h1
    exact Or.inr (by omega)
theorem cd_Dne (h : cd_F b o o' m P Q) {s : Nat} (hs : s < m) : ∃ t, cd_D o o' P Q s t := by
  obtain ⟨h1, h2, h3, _⟩ := h.2.1.2.2.2 s hs
  have B := h.2.1.2.2.1 (s + 1) (by omega)
  rcases Nat.lt_or_ge (P s) (P (s + 1)) with y | y
  · exact ⟨o (P s), Or.inl ⟨P s, by omega, by omega, y, rfl⟩⟩
  · exact ⟨8 + o' (Q s), Or.inr ⟨Q s, by omega, by omega, by omega, rfl⟩⟩
theorem cd_n4_ge {A : Nat → Bool} {p : Nat} (hp : p ≤ 4) (h : ∀ i, i < 4 → i < p → A i = true) : p ≤ cd_n4 A ∧ ∀ i, i < 4 → p ≤ i → A i = true → p < cd_n4 A := by
  have k0 : 0 < p → (A 0).toNat = 1 := fun z => by rw [h 0 (by omega) z]; rfl
  have k1 : 1 < p → (A 1).toNat = 1 := fun z => by rw [h 1 (by omega) z]; rfl
  have k2 : 2 < p → (A 2).toNat = 1 := fun z => by rw [h 2 (by omega) z]; rfl
  have k3 : 3 < p → (A 3).toNat = 1 := fun z => by rw [h 3 (by omega) z]; rfl
  unfold cd_n4
  refine ⟨?_, fun i hi hpi ha => ?_⟩
  · rcases cd_five hp with rfl | rfl | rfl | rfl | rfl <;> omega
  · have four : i = 0 ∨ i = 1 ∨ i = 2 ∨ i = 3 := by omega
    have e : (A i).toNat = 1 := by rw [ha]; rfl
    rcases cd_five hp with rfl | rfl | rfl | rfl | rfl <;> rcases four with rfl | rfl | rfl | rfl <;> omega
theorem cd_n4_lt {A : Nat → Bool} {p : Nat} (hp : p ≤ 4) (h : ∀ i, i < 4 → A i = true → i < p) : cd_n4 A ≤ p ∧ ∀ i, i < p → A i = false → cd_n4 A < p := by
  have bnd : ∀ x : Bool, x.toNat ≤ 1 := by decide
  have z : ∀ i, i < 4 → p ≤ i → (A i).toNat = 0 := by
    intro i hi hpi
    cases e : A i
    · rfl
    · exact absurd (h i hi e) (by omega)
  have k0 := z 0 (by omega)
  have k1 := z 1 (by omega)
  have k2 := z 2 (by omega)
  have k3 := z 3 (by omega)
  have b0 := bnd (A 0)
  have b1 := bnd (A 1)
  have b2 := bnd (A 2)
  have b3 := bnd (A 3)
  unfold cd_n4
  refine ⟨?_, fun i hi ha => ?_⟩
  · rcases cd_five hp with rfl | rfl | rfl | rfl | rfl <;> omega
  · have four : i = 0 ∨ i = 1 ∨ i = 2 ∨ i = 3 := by omega
    have e : (A i).toNat = 0 := by rw [ha]; rfl
    rcases cd_five hp with rfl | rfl | rfl | rfl | rfl <;> rcases four with rfl | rfl | rfl | rfl <;> omega
/-- no set that can be lifted off parts a step -/
theorem cd_Dall (h : cd_F b o o' m P Q) {S : Nat → Prop} (hS : cd_cl b S) {s t u : Nat} (hs : s < m) (ht : cd_D o o' P Q s t) (hu : cd_D o o' P Q s u) (hSt : S t) : S u := by
  refine Classical.byContradiction (fun hn => ?_)
  have C : cd_cl b (fun x => (S x ∨ cd_T o o' P Q s x) ∧ cd_T o o' P Q (s + 1) x) := by
    intro c r hc hr
    have c0 := hS c r hc hr
    have c1 := cd_Tcl h (show s ≤ m by omega) c r hc hr
    have c2 := cd_Tcl h (show s + 1 ≤ m by omega) c r hc hr
    refine ⟨fun hb hx => ⟨?_, c2.1 hb hx.2⟩, fun hb hx => ⟨?_, c2.2 hb hx.2⟩⟩
    · rcases hx.1 with y | y
      · exact Or.inl (c0.1 hb y)
      · exact Or.inr (c1.1 hb y)
    · rcases hx.1 with y | y
      · exact Or.inl (c0.2 hb y)
      · exact Or.inr (c1.2 hb y)
  have dec : ∀ X : Nat → Prop, ∃ A : Nat → Bool, ∀ i, A i = true ↔ X i := fun X => ⟨fun i => @decide (X i) (Classical.propDecidable _), fun i => @decide_eq_true_iff (X i) (Classical.propDecidable _)⟩
  obtain ⟨A, hA⟩ := dec (fun i => (S (o i) ∨ cd_T o o' P Q s (o i)) ∧ cd_T o o' P Q (s + 1) (o i))
  obtain ⟨B, hB⟩ := dec (fun j => (S (8 + o' j) ∨ cd_T o o' P Q s (8 + o' j)) ∧ cd_T o o' P Q (s + 1) (8 + o' j))
  have Z := cd_zcs h.1 C (A := A) (B := B) (fun i _ => hA i) (fun j _ => hB j)
  obtain ⟨h1, h2, h3, _, gap⟩ := h.2.1.2.2.2 s hs
  have B0 := h.2.1.2.2.1 s (by omega)
  have B1 := h.2.1.2.2.1 (s + 1) (by omega)
  have a1 := cd_n4_ge (A := A) B0.1 (fun i hi hip => (hA i).mpr ⟨Or.inr ((cd_To h hi).mpr hip), (cd_To h hi).mpr (by omega)⟩)
  have a2 := cd_n4_lt (A := A) B1.1 (fun i hi e => (cd_To h hi).mp ((hA i).mp e).2)
  have b1 := cd_n4_ge (A := B) B0.2 (fun i hi hip => (hB i).mpr ⟨Or.inr ((cd_Tf h hi).mpr hip), (cd_Tf h hi).mpr (by omega)⟩)
  have b2 := cd_n4_lt (A := B) B1.2 (fun i hi e => (cd_Tf h hi).mp ((hB i).mp e).2)
  have lo : P s + Q s < cd_n4 A + cd_n4 B := by
    rcases ht with ⟨i, y1, y2, y3, y4⟩ | ⟨j, y1, y2, y3, y4⟩
    · have := a1.2 i y1 y2 ((hA i).mpr ⟨Or.inl (y4 ▸ hSt), (cd_To h y1).mpr y3⟩)
      omega
    · have := b1.2 j y1 y2 ((hB j).mpr ⟨Or.inl (y4 ▸ hSt), (cd_Tf h y1).mpr y3⟩)
      omega
  have hi : cd_n4 A + cd_n4 B < P (s + 1) + Q (s + 1) := by
    rcases hu with ⟨i, y1, y2, y3, y4⟩ | ⟨j, y1, y2, y3, y4⟩
    · have := a2.2 i y3 (by
        cases e : A i
        · rfl
        · rcases ((hA i).mp e).1 with w | w
          · rw [← y4] at w
            exact absurd w hn
          · exact absurd ((cd_To h y1).mp w) (by omega))
      omega
    · have := b2.2 j y3 (by
        cases e : B j
        · rfl
        · rcases ((hB j).mp e).1 with w | w
          · rw [← y4] at w
            exact absurd w hn
          · exact absurd ((cd_Tf h y1).mp w) (by omega))
      omega
  exact gap _ _ a1.1 b1.1 (cd_n4_le A) (cd_n4_le B) lo hi Z
theorem cd_Dre (h : cd_F b o o' m P Q) {s t u : Nat} (hs : s < m) (ht : cd_D o o' P Q s t) (hu : cd_D o o' P Q s u) : cd_Re b t u := fun _ hS hSt => cd_Dall h hS hs ht hu hSt
theorem cd_Dnre (h : cd_F b o o' m P Q) {s s' t u : Nat} (hs : s < s') (hs' : s' < m) (ht : cd_D o o' P Q s t) (hu : cd_D o o' P Q s' u) : ¬ cd_Re b t u := by
  intro hR
  have h1 := hR _ (cd_Tcl h (show s + 1 ≤ m by omega)) ((cd_TD h (by omega) (by omega) ht).mpr (by omega))
  exact absurd ((cd_TD h hs' (by omega) hu).mp h1) (by omega)
/-- two threads go together iff they are of one step -/
theorem cd_mut (h : cd_F b o o' m P Q) {s s' t u : Nat} (hs : s < m) (hs' : s' < m) (ht : cd_D o o' P Q s t) (hu : cd_D o o' P Q s' u) : (cd_Re b t u ∧ cd_Re b u t) ↔ s = s' := by
  constructor
  · rintro ⟨h1, h2⟩
    rcases Nat.lt_trichotomy s s' with z | z | z
    · exact absurd h1 (cd_Dnre h z hs' ht hu)
    · exact z
    · exact absurd h2 (cd_Dnre h z hs hu ht)
  · intro e
    subst e
    exact ⟨cd_Dre h hs ht hu, cd_Dre h hs hu ht⟩
/-- of two crossing threads of different steps the earlier one lies above -/
theorem cd_Dx (h : cd_F b o o' m P Q) {s s' t u : Nat} (hs : s' < s) (hm : s < m) (ht : cd_D o o' P Q s t) (hu : cd_D o o' P Q s' u) (hx : (u < 4 ∧ 8 ≤ t) ∨ (8 ≤ u ∧ t < 4)) : cd_Re b t u := by
  have T1 := (cd_TD h (show s' < m by omega) (show s' + 1 ≤ m by omega) hu).mpr (by omega)
  have T2 : ¬ cd_T o o' P Q (s' + 1) t := fun w => absurd ((cd_TD h hm (show s' + 1 ≤ m by omega) ht).mp w) (by omega)
  rcases hx with ⟨hu4, ht8⟩ | ⟨hu8, ht4⟩
  · have tt := cd_Dth h ht
    have t12 : t < 12 := by
      rcases tt with w | w <;> omega
    have e : t = 8 + (t - 8) := by omega
    have c := cd_Tcl h (show s' + 1 ≤ m by omega) u (t - 8) hu4 (by omega)
    intro S hS hSt
    cases hb : b (4 * (t - 8) + u)
    · have w := c.2 hb T1
      rw [← e] at w
      exact absurd w T2
    · refine (hS u (t - 8) hu4 (by omega)).1 hb ?_
      rw [← e]
      exact hSt
  · have uu := cd_Dth h hu
    have u12 : u < 12 := by
      rcases uu with w | w <;> omega
    have e : u = 8 + (u - 8) := by omega
    have c := cd_Tcl h (show s' + 1 ≤ m by omega) t (u - 8) ht4 (by omega)
    intro S hS hSt
    cases hb : b (4 * (u - 8) + t)
    · have w := (hS t (u - 8) ht4 (by omega)).2 hb hSt
      rw [← e] at w
      exact w
    · have w := c.1 hb (by rw [← e]; exact T1)
      exact absurd w T2
/-- a step of one side alone is one thread -/
theorem cd_one (h : cd_F b o o' m P Q) {s : Nat} (hs : s < m) : (Q (s + 1) = Q s → P (s + 1) = P s + 1) ∧ (P (s + 1) = P s → Q (s + 1) = Q s + 1) := by
  obtain ⟨h1, h2, h3, _, gap⟩ := h.2.1.2.2.2 s hs
  have B0 := h.2.1.2.2.1 s (by omega)
  have B1 := h.2.1.2.2.1 (s + 1) (by omega)
  have z0 := cd_zr h (show s ≤ m by omega)
  have z1 := cd_zr h (show s + 1 ≤ m by omega)
  constructor
  · intro e
    rcases Nat.lt_or_ge (P s + 1) (P (s + 1)) with y | y
    · refine absurd ((cd_zrk h.1 (p := P s + 1) (q := Q s) (by omega) (by omega)).mpr (fun i j hi hj => ⟨fun w1 w2 => ?_, fun w1 w2 => ?_⟩)) (gap (P s + 1) (Q s) (by omega) (by omega) (by omega) (by omega) (by omega) (by omega))
      · exact (z1 i j hi hj).1 (by omega) (by omega)
      · exact (z0 i j hi hj).2 (by omega) w2
    · omega
  · intro e
    rcases Nat.lt_or_ge (Q s + 1) (Q (s + 1)) with y | y
    · refine absurd ((cd_zrk h.1 (p := P s) (q := Q s + 1) (by omega) (by omega)).mpr (fun i j hi hj => ⟨fun w1 w2 => ?_, fun w1 w2 => ?_⟩)) (gap (P s) (Q s + 1) (by omega) (by omega) (by omega) (by omega) (by omega) (by omega))
      · exact (z0 i j hi hj).1 w1 (by omega)
      · exact (z1 i j hi hj).2 (by omega) (by omega)
    · omega
end
end
section
/-! plain law B: counting; the number of classes is the number of steps -/
noncomputable def cd_in (p : Prop) : Nat := @ite Nat p (Classical.propDecidable p) 1 0
theorem cd_in_t {p : Prop} (h : p) : cd_in p = 1 := @if_pos p (Classical.propDecidable p) h Nat 1 0
theorem cd_in_f {p : Prop} (h : ¬ p) : cd_in p = 0 := @if_neg p (Classical.propDecidable p) h Nat 1 0
theorem cd_in_c {p q : Prop} (h : p ↔ q) : cd_in p = cd_in q := by rw [propext h]
noncomputable def cd_cn (p : Nat → Prop) : Nat → Nat
  | 0 => 0
  | n + 1 => cd_cn p n + cd_in (p n)
theorem cd_in_le (p : Prop) : cd_in p ≤ 1 := by
  by_cases h : p
  · rw [cd_in_t h]
    exact Nat.le_refl 1
  · rw [cd_in_f h]
    exact Nat.zero_le 1
theorem cd_cn_le (p : Nat → Prop) : ∀ n, cd_cn p n ≤ n
  | 0 => Nat.le_refl 0
  | n + 1 => by
    have h1 := cd_cn_le p n
    have h2 := cd_in_le (p n)
    show cd_cn p n + cd_in (p n) ≤ n + 1
    omega
theorem cd_cn_4 {p q r t : Nat → Prop} : ∀ n, (∀ x, x < n → cd_in (p x) + cd_in (q x) = cd_in (r x) + cd_in (t x)) → cd_cn p n + cd_cn q n = cd_cn r n + cd_cn t n
  | 0, _ => rfl
  | n + 1, h => by
    have h1 := cd_cn_4 n (fun x hx => h x (by omega))
    have h2 := h n (by omega)
    show cd_cn p n + cd_in (p n) + (cd_cn q n + cd_in (q n)) = cd_cn r n + cd_in (r n) + (cd_cn t n + cd_in (t n))
    omega
theorem cd_cn_2 {p r t : Nat → Prop} : ∀ n, (∀ x, x < n → cd_in (p x) = cd_in (r x) + cd_in (t x)) → cd_cn p n = cd_cn r n + cd_cn t n
  | 0, _ => rfl
  | n + 1, h => by
    have h1 := cd_cn_2 n (fun x hx => h x (by omega))
    have h2 := h n (by omega)
    show cd_cn p n + cd_in (p n) = cd_cn r n + cd_in (r n) + (cd_cn t n + cd_in (t n))
    omega
theorem cd_cn_c {p q : Nat → Prop} : ∀ n, (∀ x, x < n → (p x ↔ q x)) → cd_cn p n = cd_cn q n
  | 0, _ => rfl
  | n + 1, h => by
    show cd_cn p n + cd_in (p n) = cd_cn q n + cd_in (q n)
    rw [cd_cn_c n (fun x hx => h x (by omega)), cd_in_c (h n (by omega))]
theorem cd_cn_0 {p : Nat → Prop} : ∀ n, (∀ x, x < n → ¬ p x) → cd_cn p n = 0
  | 0, _ => rfl
  | n + 1, h => by
    show cd_cn p n + cd_in (p n) = 0
    rw [cd_cn_0 n (fun x hx => h x (by omega)), cd_in_f (h n (by omega))]
theorem cd_cn_all {p : Nat → Prop} : ∀ n, (∀ x, x < n → p x) → cd_cn p n = n
  | 0, _ => rfl
  | n + 1, h => by
    show cd_cn p n + cd_in (p n) = n + 1
    rw [cd_cn_all n (fun x hx => h x (by omega)), cd_in_t (h n (by omega))]
theorem cd_cn_1 {x0 : Nat} : ∀ n, x0 < n → cd_cn (fun x => x = x0) n = 1
  | 0, h => absurd h (by omega)
  | n + 1, h => by
    show cd_cn (fun x => x = x0) n + cd_in (n = x0) = 1
    by_cases e : n = x0
    · rw [cd_cn_0 n (fun x hx => by omega), cd_in_t e]
    · rw [cd_cn_1 n (by omega), cd_in_f e]
theorem cd_cn_add {p : Nat → Prop} (a : Nat) : ∀ n, cd_cn p (a + n) = cd_cn p a + cd_cn (fun x => p (a + x)) n
  | 0 => rfl
  | n + 1 => by
    show cd_cn p (a + n) + cd_in (p (a + n)) = cd_cn p a + (cd_cn (fun x => p (a + x)) n + cd_in (p (a + n)))
    rw [cd_cn_add a n, Nat.add_assoc]
theorem cd_cn_mul {p : Nat → Prop} {c : Prop} : ∀ n, cd_cn (fun x => p x ∧ c) n = cd_cn p n * cd_in c
  | 0 => by
    show 0 = 0 * cd_in c
    rw [Nat.zero_mul]
  | n + 1 => by
    show cd_cn (fun x => p x ∧ c) n + cd_in (p n ∧ c) = (cd_cn p n + cd_in (p n)) * cd_in c
    rw [cd_cn_mul n, Nat.add_mul]
    congr 1
    by_cases hc : c
    · rw [cd_in_t hc, Nat.mul_one]
      exact cd_in_c ⟨fun z => z.1, fun z => ⟨z, hc⟩⟩
    · rw [cd_in_f hc, cd_in_f (fun z => hc z.2), Nat.mul_zero]
/-- t is the first thread of its class -/
def cd_fresh (b : Nat → Bool) (t : Nat) : Prop := cd_th t ∧ ∀ u, u < t → cd_th u → ¬ (cd_Re b t u ∧ cd_Re b u t)
theorem cd_cls {b : Nat → Bool} {o o' P Q : Nat → Nat} {m : Nat} (h : cd_F b o o' m P Q) : cd_cn (cd_fresh b) 12 = m := by
  have key : ∀ T, cd_cn (cd_fresh b) T = cd_cn (fun s => ∃ t, t < T ∧ cd_D o o' P Q s t) m := by
    intro T
    induction T with
    | zero =>
      refine (cd_cn_0 m (fun s _ hx => ?_)).symm
      obtain ⟨t, ht, _⟩ := hx
      omega
    | succ T ih =>
      show cd_cn (cd_fresh b) T + cd_in (cd_fresh b T) = _
      rw [ih]
      by_cases hf : cd_fresh b T
      · obtain ⟨s0, hs0, hD⟩ := cd_Dex h hf.1
        suffices E : cd_cn (fun s => ∃ t, t < T + 1 ∧ cd_D o o' P Q s t) m = cd_cn (fun s => ∃ t, t < T ∧ cd_D o o' P Q s t) m + cd_cn (fun x => x = s0) m by
          rw [E, cd_in_t hf, cd_cn_1 m hs0]
        refine cd_cn_2 m (fun s hs => ?_)
        by_cases e : s = s0
        · rw [cd_in_t (⟨T, by omega, by rw [e]; exact hD⟩ : ∃ t, t < T + 1 ∧ cd_D o o' P Q s t), cd_in_t e, cd_in_f]
          rintro ⟨u, hu, hDu⟩
          rw [e] at hDu
          exact hf.2 u hu (cd_Dth h hDu) ((cd_mut h hs0 hs0 hD hDu).mpr rfl)
        · rw [cd_in_f e, Nat.add_zero]
          refine cd_in_c ⟨?_, ?_⟩
          · rintro ⟨t, ht, hDt⟩
            rcases Nat.lt_or_ge t T with y | y
            · exact ⟨t, y, hDt⟩
            · rw [show t = T by omega] at hDt
              exact absurd (cd_D1 h hs hs0 hDt hD) e
          · rintro ⟨t, ht, hDt⟩
            exact ⟨t, by omega, hDt⟩
      · rw [cd_in_f hf, Nat.add_zero]
        refine cd_cn_c m (fun s hs => ⟨?_, ?_⟩)
        · rintro ⟨t, ht, hDt⟩
          exact ⟨t, by omega, hDt⟩
        · rintro ⟨t, ht, hDt⟩
          rcases Nat.lt_or_ge t T with y | y
          · exact ⟨t, y, hDt⟩
          · rw [show t = T by omega] at hDt
            refine Classical.byContradiction (fun hn => hf ⟨cd_Dth h hDt, fun u hu hth hmu => hn ?_⟩)
            obtain ⟨s1, hs1, hD1⟩ := cd_Dex h hth
            have e := (cd_mut h hs hs1 hDt hD1).mp hmu
            exact ⟨u, hu, by rw [e]; exact hD1⟩
  rw [key 12]
  refine cd_cn_all m (fun s hs => ?_)
  obtain ⟨t, ht⟩ := cd_Dne h hs
  refine ⟨t, ?_, ht⟩
  rcases cd_Dth h ht with y | y <;> omega
end
section
/-! plain law C: how many sets can be lifted off -/
/-- the set of threads that the law's number x stands for -/
def cd_mk (x t : Nat) : Prop := (t < 4 ∧ x.testBit t = true) ∨ (8 ≤ t ∧ t < 12 ∧ x.testBit (t - 4) = true)
def cd_tr (i : Nat) : Nat := if i < 4 then i else i + 4
theorem cd_mk_th {x t : Nat} (h : cd_mk x t) : cd_th t := by
  rcases h with h | h
  · exact Or.inl h.1
  · exact Or.inr ⟨h.1, h.2.1⟩
theorem cd_mk_tr {x i : Nat} (hi : i < 8) : cd_mk x (cd_tr i) ↔ x.testBit i = true := by
  unfold cd_tr cd_mk
  by_cases h : i < 4
  · rw [if_pos h]
    constructor
    · rintro (z | z)
      · exact z.2
      · exact absurd z.1 (by omega)
    · intro z
      exact Or.inl ⟨h, z⟩
  · rw [if_neg h, show i + 4 - 4 = i by omega]
    constructor
    · rintro (z | z)
      · exact absurd z.1 (by omega)
      · exact z.2.2
    · intro z
      exact Or.inr ⟨by omega, by omega, z⟩
theorem cd_th_tr {t : Nat} (h : cd_th t) : ∃ i, i < 8 ∧ t = cd_tr i := by
  unfold cd_tr
  rcases h with h | h
  · exact ⟨t, by omega, by rw [if_pos h]⟩
  · exact ⟨t - 4, by omega, by rw [if_neg (by omega)]; omega⟩
theorem cd_tr_th {i : Nat} (h : i < 8) : cd_th (cd_tr i) := by
  unfold cd_tr
  by_cases z : i < 4
  · rw [if_pos z]
    exact Or.inl z
  · rw [if_neg z]
    exact Or.inr (by omega)
theorem cd_mk_inj {x y : Nat} (hx : x < 256) (hy : y < 256) (h : ∀ t, cd_mk x t ↔ cd_mk y t) : x = y := by
  apply Nat.eq_of_testBit_eq
  intro i
  rcases Nat.lt_or_ge i 8 with z | z
  · rw [Bool.eq_iff_iff, ← cd_mk_tr z, ← cd_mk_tr z]
    exact h _
  · have p : 2 ^ 8 ≤ 2 ^ i := Nat.pow_le_pow_right (by omega) z
    rw [Nat.testBit_lt_two_pow (show x < 2 ^ i by omega), Nat.testBit_lt_two_pow (show y < 2 ^ i by omega)]
theorem cd_mk_bits (p : Nat → Prop) : ∀ n, ∃ x, x < 2 ^ n ∧ ∀ i, x.testBit i = true ↔ (i < n ∧ p i)
  | 0 => ⟨0, by decide, fun i => ⟨fun z => absurd z (by rw [Nat.zero_testBit]; decide), fun z => absurd z.1 (by omega)⟩⟩
  | n + 1 => by
    obtain ⟨x, hx, h⟩ := cd_mk_bits p n
    have p2 : 2 ^ n < 2 ^ (n + 1) := Nat.pow_lt_pow_right (by omega) (by omega)
    by_cases hp : p n
    · refine ⟨x ||| 2 ^ n, Nat.or_lt_two_pow (by omega) p2, fun i => ?_⟩
      rw [Nat.testBit_or, Bool.or_eq_true, h, Nat.testBit_two_pow, decide_eq_true_iff]
      constructor
      · rintro (z | z)
        · exact ⟨by omega, z.2⟩
        · exact ⟨by omega, z ▸ hp⟩
      · rintro ⟨z1, z2⟩
        rcases Nat.lt_or_ge i n with y | y
        · exact Or.inl ⟨y, z2⟩
        · exact Or.inr (by omega)
    · refine ⟨x, by omega, fun i => ?_⟩
      rw [h]
      constructor
      · rintro ⟨z1, z2⟩
        exact ⟨by omega, z2⟩
      · rintro ⟨z1, z2⟩
        rcases Nat.lt_or_ge i n with y | y
        · exact ⟨y, z2⟩
        · exact absurd (show p n by rw [← show i = n by omega]; exact z2) hp
theorem cd_mk_ex (p : Nat → Prop) (hp : ∀ t, p t → cd_th t) : ∃ x, x < 256 ∧ ∀ t, cd_mk x t ↔ p t := by
  obtain ⟨x, hx, h⟩ := cd_mk_bits (fun i => p (cd_tr i)) 8
  refine ⟨x, hx, fun t => ?_⟩
  constructor
  · intro z
    obtain ⟨i, hi, e⟩ := cd_th_tr (cd_mk_th z)
    rw [e] at z ⊢
    exact ((h i).mp ((cd_mk_tr hi).mp z)).2
  · intro z
    obtain ⟨i, hi, e⟩ := cd_th_tr (hp t z)
    rw [e] at z ⊢
    exact (cd_mk_tr hi).mpr ((h i).mpr ⟨hi, z⟩)
/-- how many numbers have bit by bit what is wanted -/
def cd_wt (f g : Nat → Prop) (k x : Nat) : Prop := ∀ i, i < k → (x.testBit i = false → f i) ∧ (x.testBit i = true → g i)
theorem cd_prod {f g : Nat → Prop} (hfg : ∀ i, ¬ f i → g i) : ∀ k, cd_cn (cd_wt f g k) (2 ^ k) = 2 ^ (cd_cn (fun i => g i ∧ f i) k) * (cd_in (∀ i, i < k → f i ∨ g i))
  | 0 => by
    show 0 + cd_in (cd_wt f g 0 0) = 2 ^ 0 * cd_in (∀ i, i < 0 → f i ∨ g i)
    rw [cd_in_t (show cd_wt f g 0 0 from fun i hi => absurd hi (by omega)), cd_in_t (show ∀ i, i < 0 → f i ∨ g i from fun i hi => absurd hi (by omega))]
  | k + 1 => by
    have ih := cd_prod hfg k
    have all : ∀ n, cd_in (∀ i, i < n → f i ∨ g i) = 1 := fun n => cd_in_t (fun i _ => by
      by_cases z : f i
      · exact Or.inl z
      · exact Or.inr (hfg i z))
    rw [all k, Nat.mul_one] at ih
    rw [all (k + 1), Nat.mul_one, show 2 ^ (k + 1) = 2 ^ k + 2 ^ k by rw [Nat.pow_succ]; omega, cd_cn_add]
    have e1 : cd_cn (cd_wt f g (k + 1)) (2 ^ k) = cd_cn (cd_wt f g k) (2 ^ k) * cd_in (f k) := by
      rw [← cd_cn_mul]
      refine cd_cn_c _ (fun x hx => ⟨fun z => ⟨fun i hi => z i (by omega), (z k (by omega)).1 (Nat.testBit_lt_two_pow hx)⟩, fun z i hi => ?_⟩)
      rcases Nat.lt_or_ge i k with y | y
      · exact z.1 i y
      · rw [show i = k by omega, Nat.testBit_lt_two_pow hx]
        exact ⟨fun _ => z.2, fun w => absurd w (by decide)⟩
    have e2 : cd_cn (fun x => cd_wt f g (k + 1) (2 ^ k + x)) (2 ^ k) = cd_cn (cd_wt f g k) (2 ^ k) * cd_in (g k) := by
      rw [← cd_cn_mul]
      refine cd_cn_c _ (fun x hx => ?_)
      have tk : (2 ^ k + x).testBit k = true := by rw [Nat.testBit_two_pow_add_eq, Nat.testBit_lt_two_pow hx]; rfl
      constructor
      · intro z
        refine ⟨fun i hi => ?_, (z k (by omega)).2 tk⟩
        have w := z i (by omega)
        rw [Nat.testBit_two_pow_add_gt hi] at w
        exact w
      · intro z i hi
        rcases Nat.lt_or_ge i k with y | y
        · rw [Nat.testBit_two_pow_add_gt y]
          exact z.1 i y
        · rw [show i = k by omega, tk]
          exact ⟨fun w => absurd w (by decide), fun _ => z.2⟩
    rw [e1, e2, ih, ← Nat.mul_add]
    show 2 ^ (cd_cn (fun i => g i ∧ f i) k) * (cd_in (f k) + cd_in (g k)) = 2 ^ (cd_cn (fun i => g i ∧ f i) k + cd_in (g k ∧ f k))
    rw [Nat.pow_add]
    congr 1
    by_cases hf : f k
    · by_cases hg : g k
      · rw [cd_in_t hf, cd_in_t hg, cd_in_t ⟨hg, hf⟩]
      · rw [cd_in_t hf, cd_in_f hg, cd_in_f (fun z => hg z.1)]
    · rw [cd_in_f hf, cd_in_t (hfg k hf), cd_in_f (fun z => hf z.2)]
section
variable {b : Nat → Bool} {o o' P Q : Nat → Nat} {m : Nat}
theorem cd_in4 (f : Nat → Prop) {p : Nat} (hp : p ≤ 4) (hf : ∀ i, i < 4 → (f i ↔ i < p)) : cd_in (f 0) + cd_in (f 1) + cd_in (f 2) + cd_in (f 3) = p := by
  have e : ∀ i, i < 4 → (i < p → cd_in (f i) = 1) ∧ (p ≤ i → cd_in (f i) = 0) := fun i hi => ⟨fun z => cd_in_t ((hf i hi).mpr z), fun z => cd_in_f (fun w => absurd ((hf i hi).mp w) (by omega))⟩
  have e0 := e 0 (by omega)
  have e1 := e 1 (by omega)
  have e2 := e 2 (by omega)
  have e3 := e 3 (by omega)
  rcases cd_five hp with rfl | rfl | rfl | rfl | rfl <;> omega
/-- how many threads are of a step before s -/
theorem cd_Tn (h : cd_F b o o' m P Q) {s : Nat} (hs : s ≤ m) : cd_cn (fun i => cd_T o o' P Q s (cd_tr i)) 8 = P s + Q s := by
  have B := h.2.1.2.2.1 s hs
  have w := cd_perm4 h.1.1 (fun c => cd_in (cd_T o o' P Q s c))
  have f := cd_perm4 h.1.2.1 (fun r => cd_in (cd_T o o' P Q s (8 + r)))
  have w2 := cd_in4 (fun i => cd_T o o' P Q s (o i)) B.1 (fun i hi => cd_To h hi)
  have f2 := cd_in4 (fun j => cd_T o o' P Q s (8 + o' j)) B.2 (fun i hi => cd_Tf h hi)
  show 0 + cd_in (cd_T o o' P Q s 0) + cd_in (cd_T o o' P Q s 1) + cd_in (cd_T o o' P Q s 2) + cd_in (cd_T o o' P Q s 3) + cd_in (cd_T o o' P Q s (8 + 0)) + cd_in (cd_T o o' P Q s (8 + 1)) + cd_in (cd_T o o' P Q s (8 + 2)) + cd_in (cd_T o o' P Q s (8 + 3)) = P s + Q s
  omega
theorem cd_Tmono (h : cd_F b o o' m P Q) {s s' t : Nat} (hs : s ≤ s') (hs' : s' ≤ m) (hT : cd_T o o' P Q s t) : cd_T o o' P Q s' t := by
  have k := cd_ch_mono' h.2.1 hs hs'
  rcases hT with ⟨i, h1, h2, h3⟩ | ⟨j, h1, h2, h3⟩
  · exact Or.inl ⟨i, h1, by omega, h3⟩
  · exact Or.inr ⟨j, h1, by omega, h3⟩
theorem cd_TDx (h : cd_F b o o' m P Q) {s t : Nat} (hs : s ≤ m) (ht : cd_T o o' P Q s t) : ∃ s', s' < s ∧ cd_D o o' P Q s' t := by
  obtain ⟨s', h1, h2⟩ := cd_Dex h (cd_Tth h ht)
  exact ⟨s', (cd_TD h h1 hs h2).mp ht, h2⟩
/-- s .. s + n - 1 are steps of single threads of one side; the step before has a thread of the other side -/
def cd_rn (P Q : Nat → Nat) (s n : Nat) : Prop := (Q (s + n) = Q s ∧ (s = 0 ∨ Q (s - 1) < Q s)) ∨ (P (s + n) = P s ∧ (s = 0 ∨ P (s - 1) < P s))
theorem cd_R1 (h : cd_F b o o' m P Q) {s n : Nat} (hn : s + n ≤ m) (hr : cd_rn P Q s n) {S : Nat → Prop} (hS : cd_cl b S) {t : Nat} (ht : cd_T o o' P Q (s + n) t) (ht' : ¬ cd_T o o' P Q s t) (hSt : S t) {u : Nat} (hu : cd_T o o' P Q s u) : S u := by
  obtain ⟨s2, hs2, hD2⟩ := cd_TDx h hn ht
  obtain ⟨s1, hs1, hD1⟩ := cd_TDx h (show s ≤ m by omega) hu
  have hs2' : s ≤ s2 := by
    rcases Nat.lt_or_ge s2 s with y | y
    · exact absurd ((cd_TD h (by omega) (by omega) hD2).mpr y) ht'
    · exact y
  have B := h.2.1.2.2.1 s (by omega)
  have tt := cd_Tth h ht
  have uu := cd_Tth h hu
  rcases hr with ⟨hq, h0⟩ | ⟨hp, h0⟩
  · have t4 : t < 4 := by
      rcases tt with y | y
      · exact y
      · obtain ⟨j, hj, ej⟩ := cd_surj h.1.2.1 (c := t - 8) (by omega)
        have e : t = 8 + o' j := by omega
        rw [e, cd_Tf h hj] at ht ht'
        exact absurd (hq ▸ ht) ht'
    rcases uu with y | y
    · have hs0 : Q (s - 1) < Q s := by
        rcases h0 with z | z
        · omega
        · exact z
      have hv : cd_D o o' P Q (s - 1) (8 + o' (Q (s - 1))) := Or.inr ⟨Q (s - 1), by omega, Nat.le_refl _, by rw [show s - 1 + 1 = s by omega]; exact hs0, rfl⟩
      have r1 : cd_Re b t (8 + o' (Q (s - 1))) := cd_Dx h (show s - 1 < s2 by omega) (by omega) hD2 hv (Or.inr ⟨by omega, t4⟩)
      have r2 : cd_Re b (8 + o' (Q (s - 1))) u := by
        rcases Nat.lt_or_ge s1 (s - 1) with w | w
        · exact cd_Dx h w (by omega) hv hD1 (Or.inl ⟨y, by omega⟩)
        · rw [show s1 = s - 1 by omega] at hD1
          exact cd_Dre h (by omega) hv hD1
      exact cd_re_trans r1 r2 S hS hSt
    · exact cd_Dx h (show s1 < s2 by omega) (by omega) hD2 hD1 (Or.inr ⟨y.1, t4⟩) S hS hSt
  · have t8 : 8 ≤ t := by
      rcases tt with y | y
      · obtain ⟨i, hi, ei⟩ := cd_surj h.1.1 y
        rw [← ei, cd_To h hi] at ht ht'
        exact absurd (hp ▸ ht) ht'
      · exact y.1
    rcases uu with y | y
    · exact cd_Dx h (show s1 < s2 by omega) (by omega) hD2 hD1 (Or.inl ⟨y, t8⟩) S hS hSt
    · have hs0 : P (s - 1) < P s := by
        rcases h0 with z | z
        · omega
        · exact z
      have o4 := h.1.1.1 (P (s - 1)) (by omega)
      have hv : cd_D o o' P Q (s - 1) (o (P (s - 1))) := Or.inl ⟨P (s - 1), by omega, Nat.le_refl _, by rw [show s - 1 + 1 = s by omega]; exact hs0, rfl⟩
      have r1 : cd_Re b t (o (P (s - 1))) := cd_Dx h (show s - 1 < s2 by omega) (by omega) hD2 hv (Or.inl ⟨o4, t8⟩)
      have r2 : cd_Re b (o (P (s - 1))) u := by
        rcases Nat.lt_or_ge s1 (s - 1) with w | w
        · exact cd_Dx h w (by omega) hv hD1 (Or.inr ⟨y.1, o4⟩)
        · rw [show s1 = s - 1 by omega] at hD1
          exact cd_Dre h (by omega) hv hD1
      exact cd_re_trans r1 r2 S hS hSt
theorem cd_R2 (h : cd_F b o o' m P Q) {s n : Nat} (hn : s + n ≤ m) (hr : cd_rn P Q s n) {S : Nat → Prop} (h1 : ∀ t, cd_T o o' P Q s t → S t) (h2 : ∀ t, S t → cd_T o o' P Q (s + n) t) : cd_cl b S := by
  intro c r hc hr'
  have c0 := cd_Tcl h (show s ≤ m by omega) c r hc hr'
  have c1 := cd_Tcl h hn c r hc hr'
  rcases hr with ⟨hq, _⟩ | ⟨hp, _⟩
  · have k : cd_T o o' P Q (s + n) (8 + r) → cd_T o o' P Q s (8 + r) := by
      obtain ⟨j, hj, ej⟩ := cd_surj h.1.2.1 hr'
      rw [← ej, cd_Tf h hj, cd_Tf h hj, hq]
      exact id
    exact ⟨fun hb hx => h1 _ (c0.1 hb (k (h2 _ hx))), fun hb hx => h1 _ (k (c1.2 hb (h2 _ hx)))⟩
  · have k : cd_T o o' P Q (s + n) c → cd_T o o' P Q s c := by
      obtain ⟨i, hi, ei⟩ := cd_surj h.1.1 hc
      rw [← ei, cd_To h hi, cd_To h hi, hp]
      exact id
    exact ⟨fun hb hx => h1 _ (k (c1.1 hb (h2 _ hx))), fun hb hx => h1 _ (c0.2 hb (k (h2 _ hx)))⟩
/-- how many sets within the steps before s can be lifted off -/
noncomputable def cd_N (b : Nat → Bool) (o o' P Q : Nat → Nat) (s : Nat) : Nat := cd_cn (fun x => cd_cl b (cd_mk x) ∧ ∀ t, cd_mk x t → cd_T o o' P Q s t) 256
theorem cd_Nrun (h : cd_F b o o' m P Q) {s n : Nat} (hn : s + n ≤ m) (hr : cd_rn P Q s n) (hpq : P (s + n) + Q (s + n) = P s + Q s + n) : cd_N b o o' P Q (s + n) + 1 = cd_N b o o' P Q s + 2 ^ n := by
  obtain ⟨L, hL, mL⟩ := cd_mk_ex (cd_T o o' P Q s) (fun t ht => cd_Tth h ht)
  have mono : ∀ t, cd_T o o' P Q s t → cd_T o o' P Q (s + n) t := fun t ht => cd_Tmono h (by omega) hn ht
  have cI : cd_cn (fun x => (∀ t, cd_T o o' P Q s t → cd_mk x t) ∧ ∀ t, cd_mk x t → cd_T o o' P Q (s + n) t) 256 = 2 ^ n := by
    have pr := cd_prod (f := fun i => ¬ cd_T o o' P Q s (cd_tr i)) (g := fun i => cd_T o o' P Q (s + n) (cd_tr i)) (fun i z => mono _ (Classical.byContradiction z)) 8
    have T1 := cd_Tn h (show s ≤ m by omega)
    have T2 := cd_Tn h hn
    have T3 := cd_cn_2 (p := fun i => cd_T o o' P Q (s + n) (cd_tr i)) (r := fun i => cd_T o o' P Q (s + n) (cd_tr i) ∧ ¬ cd_T o o' P Q s (cd_tr i)) (t := fun i => cd_T o o' P Q s (cd_tr i)) 8 (fun i _ => by
      by_cases z : cd_T o o' P Q s (cd_tr i)
      · rw [cd_in_t (mono _ z), cd_in_f (fun w => w.2 z), cd_in_t z]
      · rw [cd_in_f z, Nat.add_zero]
        exact cd_in_c ⟨fun w => ⟨w, z⟩, fun w => w.1⟩)
    have T4 : cd_cn (fun i => cd_T o o' P Q (s + n) (cd_tr i) ∧ ¬ cd_T o o' P Q s (cd_tr i)) 8 = n := by omega
    rw [T4, cd_in_t (fun i _ => by
      by_cases z : cd_T o o' P Q s (cd_tr i)
      · exact Or.inr (mono _ z)
      · exact Or.inl z), Nat.mul_one] at pr
    rw [← pr]
    refine cd_cn_c 256 (fun x _ => ⟨fun z i hi => ⟨fun w hT => ?_, fun w => z.2 _ ((cd_mk_tr hi).mpr w)⟩, fun z => ⟨fun t ht => ?_, fun t ht => ?_⟩⟩)
    · have := (cd_mk_tr hi).mp (z.1 _ hT)
      rw [w] at this
      exact absurd this (by decide)
    · obtain ⟨i, hi, e⟩ := cd_th_tr (cd_Tth h ht)
      rw [e] at ht ⊢
      refine (cd_mk_tr hi).mpr ?_
      cases w : x.testBit i
      · exact absurd ht ((z i hi).1 w)
      · rfl
    · obtain ⟨i, hi, e⟩ := cd_th_tr (cd_mk_th ht)
      rw [e] at ht ⊢
      exact (z i hi).2 ((cd_mk_tr hi).mp ht)
  have c1 := cd_cn_1 256 hL
  unfold cd_N
  rw [← cI, ← c1]
  refine cd_cn_4 256 (fun x hx => ?_)
  by_cases k1 : ∀ t, cd_mk x t → cd_T o o' P Q (s + n) t
  · by_cases k2 : ∀ t, cd_mk x t → cd_T o o' P Q s t
    · congr 1
      · exact cd_in_c ⟨fun z => ⟨z.1, k2⟩, fun z => ⟨z.1, k1⟩⟩
      · refine cd_in_c ⟨fun z => ⟨fun t ht => by rw [z]; exact (mL t).mpr ht, k1⟩, fun z => cd_mk_inj hx hL (fun t => ⟨fun w => (mL t).mpr (k2 t w), fun w => z.1 t ((mL t).mp w)⟩)⟩
    · have nx : ¬ x = L := fun e => k2 (fun t ht => (mL t).mp (e ▸ ht))
      rw [cd_in_f nx, cd_in_f (fun z : (cd_cl b (cd_mk x) ∧ ∀ t, cd_mk x t → cd_T o o' P Q s t) => k2 z.2), Nat.add_zero, Nat.zero_add]
      refine cd_in_c ⟨fun z => ⟨fun u hu => ?_, k1⟩, fun z => ⟨cd_R2 h hn hr z.1 z.2, k1⟩⟩
      obtain ⟨t, ht⟩ := Classical.not_forall.mp k2
      have ht1 : cd_mk x t := Classical.byContradiction (fun w => ht (fun y => absurd y w))
      have ht2 : ¬ cd_T o o' P Q s t := fun w => ht (fun _ => w)
      exact cd_R1 h hn hr z.1 (k1 t ht1) ht2 ht1 hu
  · have nx : ¬ x = L := fun e => k1 (fun t ht => mono t ((mL t).mp (e ▸ ht)))
    rw [cd_in_f nx, cd_in_f (fun z : (cd_cl b (cd_mk x) ∧ ∀ t, cd_mk x t → cd_T o o' P Q s t) => k1 (fun t ht => mono t (z.2 t ht))), cd_in_f (fun z : (cd_cl b (cd_mk x) ∧ ∀ t, cd_mk x t → cd_T o o' P Q (s + n) t) => k1 z.2), cd_in_f (fun z : ((∀ t, cd_T o o' P Q s t → cd_mk x t) ∧ ∀ t, cd_mk x t → cd_T o o' P Q (s + n) t) => k1 z.2)]
theorem cd_Nbig (h : cd_F b o o' m P Q) {s : Nat} (hs : s < m) (hp : P s < P (s + 1)) (hq : Q s < Q (s + 1)) : cd_N b o o' P Q (s + 1) = cd_N b o o' P Q s + 1 := by
  obtain ⟨L, hL, mL⟩ := cd_mk_ex (cd_T o o' P Q (s + 1)) (fun t ht => cd_Tth h ht)
  have B := h.2.1.2.2.1 (s + 1) (by omega)
  have c1 := cd_cn_1 256 hL
  suffices E : cd_N b o o' P Q (s + 1) = cd_N b o o' P Q s + cd_cn (fun x => x = L) 256 by rw [E, c1]
  unfold cd_N
  have Tw : cd_D o o' P Q s (o (P s)) := Or.inl ⟨P s, by omega, Nat.le_refl _, hp, rfl⟩
  have Tf : cd_D o o' P Q s (8 + o' (Q s)) := Or.inr ⟨Q s, by omega, Nat.le_refl _, hq, rfl⟩
  have o4 := h.1.1.1 (P s) (by omega)
  refine cd_cn_2 256 (fun x hx => ?_)
  by_cases k2 : ∀ t, cd_mk x t → cd_T o o' P Q s t
  · have nx : ¬ x = L := fun e => by
      have z := k2 (o (P s)) (by rw [e]; exact (mL _).mpr ((cd_TD h hs (by omega) Tw).mpr (by omega)))
      exact absurd ((cd_TD h hs (by omega) Tw).mp z) (by omega)
    rw [cd_in_f nx, Nat.add_zero]
    exact cd_in_c ⟨fun z => ⟨z.1, k2⟩, fun z => ⟨z.1, fun t ht => cd_Tmono h (by omega) (by omega) (z.2 t ht)⟩⟩
  · rw [cd_in_f (fun z : (cd_cl b (cd_mk x) ∧ ∀ t, cd_mk x t → cd_T o o' P Q s t) => k2 z.2), Nat.zero_add]
    refine cd_in_c ⟨fun z => ?_, fun e => ?_⟩
    · obtain ⟨t, ht⟩ := Classical.not_forall.mp k2
      have ht1 : cd_mk x t := Classical.byContradiction (fun w => ht (fun y => absurd y w))
      have ht2 : ¬ cd_T o o' P Q s t := fun w => ht (fun _ => w)
      obtain ⟨s', hs', hD'⟩ := cd_TDx h (by omega) (z.2 t ht1)
      have es : s' = s := by
        rcases Nat.lt_or_ge s' s with y | y
        · exact absurd ((cd_TD h (by omega) (by omega) hD').mpr y) ht2
        · omega
      rw [es] at hD'
      have Sw := cd_Dall h z.1 hs hD' Tw ht1
      have Sf := cd_Dall h z.1 hs hD' Tf ht1
      refine cd_mk_inj hx hL (fun u => ⟨fun w => (mL u).mpr (z.2 u w), fun w => ?_⟩)
      obtain ⟨s1, hs1, hD1⟩ := cd_TDx h (by omega) ((mL u).mp w)
      rcases Nat.lt_or_ge s1 s with y | y
      · rcases cd_Dth h hD1 with v | v
        · exact cd_Dx h y hs Tf hD1 (Or.inl ⟨v, by omega⟩) _ z.1 Sf
        · exact cd_Dx h y hs Tw hD1 (Or.inr ⟨v.1, o4⟩) _ z.1 Sw
      · rw [show s1 = s by omega] at hD1
        exact cd_Dall h z.1 hs hD' hD1 ht1
    · refine ⟨fun c r hc hr => ?_, fun t ht => (mL t).mp (e ▸ ht)⟩
      have c1 := cd_Tcl h (show s + 1 ≤ m by omega) c r hc hr
      rw [e]
      rw [mL c, mL (8 + r)]
      exact c1
theorem cd_N0 (h : cd_F b o o' m P Q) : cd_N b o o' P Q 0 = 1 := by
  unfold cd_N
  rw [← cd_cn_1 (x0 := 0) 256 (by omega)]
  have e0 : ∀ t, ¬ cd_mk 0 t := by
    rintro t (z | z)
    · exact absurd z.2 (by rw [Nat.zero_testBit]; decide)
    · exact absurd z.2.2 (by rw [Nat.zero_testBit]; decide)
  have T0 : ∀ t, ¬ cd_T o o' P Q 0 t := by
    rintro t (⟨i, h1, h2, h3⟩ | ⟨i, h1, h2, h3⟩)
    · rw [h.2.1.1] at h2
      omega
    · rw [h.2.1.2.1] at h2
      omega
  refine cd_cn_c 256 (fun x hx => ⟨fun z => ?_, fun e => ?_⟩)
  · exact cd_mk_inj hx (by omega) (fun t => ⟨fun w => absurd (z.2 t w) (T0 t), fun w => absurd w (e0 t)⟩)
  · rw [e]
    exact ⟨fun c r _ _ => ⟨fun _ w => absurd w (e0 _), fun _ w => absurd w (e0 _)⟩, fun t w => absurd w (e0 t)⟩
/-- the law's count -/
noncomputable def cd_lf (b : Nat → Bool) : Nat := cd_cn (fun x => 0 < x ∧ x < 255 ∧ cd_cl b (cd_mk x)) 256
theorem cd_Nm (h : cd_F b o o' m P Q) : cd_N b o o' P Q m = cd_lf b + 2 := by
  have Tm : ∀ t, cd_th t → cd_T o o' P Q m t := by
    intro t ht
    obtain ⟨s, hs, hD⟩ := cd_Dex h ht
    exact (cd_TD h hs (Nat.le_refl m) hD).mpr hs
  have full : ∀ t, cd_th t → cd_mk 255 t := by
    rintro t (z | z)
    · exact Or.inl ⟨z, (by decide : ∀ i, i < 8 → Nat.testBit 255 i = true) t (by omega)⟩
    · exact Or.inr ⟨z.1, z.2, (by decide : ∀ i, i < 8 → Nat.testBit 255 i = true) (t - 4) (by omega)⟩
  have e0 : ∀ t, ¬ cd_mk 0 t := by
    rintro t (z | z)
    · exact absurd z.2 (by rw [Nat.zero_testBit]; decide)
    · exact absurd z.2.2 (by rw [Nat.zero_testBit]; decide)
  have cl0 : cd_cl b (cd_mk 0) := fun c r _ _ => ⟨fun _ w => absurd w (e0 _), fun _ w => absurd w (e0 _)⟩
  have cl1 : cd_cl b (cd_mk 255) := fun c r hc hr => ⟨fun _ w => full c (Or.inl hc), fun _ w => full (8 + r) (Or.inr ⟨by omega, by omega⟩)⟩
  have s1 : cd_N b o o' P Q m = cd_cn (fun x => cd_cl b (cd_mk x)) 256 := cd_cn_c 256 (fun x _ => ⟨fun z => z.1, fun z => ⟨z, fun t ht => Tm t (cd_mk_th ht)⟩⟩)
  have s2 : cd_cn (fun x => cd_cl b (cd_mk x)) 256 = cd_cn (fun x => x < 255 ∧ cd_cl b (cd_mk x)) 256 + cd_cn (fun x => x = 255) 256 := cd_cn_2 256 (fun x hx => by
    by_cases e : x = 255
    · rw [cd_in_t e, cd_in_f (fun z : (x < 255 ∧ cd_cl b (cd_mk x)) => absurd z.1 (by omega)), cd_in_t (by rw [e]; exact cl1)]
    · rw [cd_in_f e, Nat.add_zero]
      exact cd_in_c ⟨fun z => ⟨by omega, z⟩, fun z => z.2⟩)
  have s3 : cd_cn (fun x => x < 255 ∧ cd_cl b (cd_mk x)) 256 = cd_lf b + cd_cn (fun x => x = 0) 256 := cd_cn_2 256 (fun x hx => by
    by_cases e : x = 0
    · rw [cd_in_t e, cd_in_f (fun z : (0 < x ∧ x < 255 ∧ cd_cl b (cd_mk x)) => absurd z.1 (by omega)), cd_in_t (⟨by omega, by rw [e]; exact cl0⟩ : x < 255 ∧ cd_cl b (cd_mk x))]
    · rw [cd_in_f e, Nat.add_zero]
      exact cd_in_c ⟨fun z => ⟨by omega, z⟩, fun z => z.2⟩)
  rw [s1, s2, s3, cd_cn_1 256 (by omega), cd_cn_1 256 (by omega)]
end
end
section
/-! the calls that rest on findSteps -/
def cd_dl (P Q : Nat → Nat) (s : Nat) : Nat := P (s + 1) - P s + (Q (s + 1) - Q s)
section
variable {b : Nat → Bool} {o o' P Q : Nat → Nat} {m : Nat} {st : Int32} {a1 a2 a3 a4 a5 a6 a7 a8 : Nat → Int32}
theorem cd_a7 (h : cd_F b o o' m P Q) (ha : cd_ar o o' m P Q a6 a7 a8) {s : Nat} (hs : s < m) : a7 s = 1 ↔ cd_dl P Q s = 1 := by
  have B := h.2.1.2.2.1 (s + 1) (by omega)
  rw [(ha s hs).2.2.1]
  show nI (cd_dl P Q s) = nI 1 ↔ _
  have : cd_dl P Q s ≤ 8 := by
    unfold cd_dl
    omega
  exact nI_eq (by omega) (by omega)
theorem cd_a8 (ha : cd_ar o o' m P Q a6 a7 a8) {s s' : Nat} (hs : s < m) (hs' : s' < m) : a8 s' = a8 s ↔ (P s' < P (s' + 1) ↔ P s < P (s + 1)) := by
  rw [(ha s hs).2.2.2, (ha s' hs').2.2.2]
  by_cases h1 : P s < P (s + 1) <;> by_cases h2 : P s' < P (s' + 1)
  · rw [if_pos h1, if_pos h2]
    exact ⟨fun _ => ⟨fun _ => h1, fun _ => h2⟩, fun _ => rfl⟩
  · rw [if_pos h1, if_neg h2]
    exact ⟨fun z => absurd z (by decide), fun z => absurd (z.mpr h1) h2⟩
  · rw [if_neg h1, if_pos h2]
    exact ⟨fun z => absurd z (by decide), fun z => absurd (z.mp h2) h1⟩
  · rw [if_neg h1, if_neg h2]
    exact ⟨fun _ => ⟨fun z => absurd z h2, fun z => absurd z h1⟩, fun _ => rfl⟩
/-- what freeFrom finds from step s on -/
def cd_fr (m : Nat) (P Q : Nat → Nat) (s n : Nat) : Prop := 1 ≤ n ∧ s + n ≤ m ∧ ((n = 1 ∧ ¬ cd_dl P Q s = 1) ∨ ((∀ s', s ≤ s' → s' < s + n → cd_dl P Q s' = 1 ∧ (P s' < P (s' + 1) ↔ P s < P (s + 1))) ∧ (s + n = m ∨ ¬ cd_dl P Q (s + n) = 1 ∨ ¬ (P (s + n) < P (s + n + 1) ↔ P s < P (s + 1)))))
theorem cd_free {post : Int32 → Prop} (h : cd_F b o o' m P Q) (ha : cd_ar o o' m P Q a6 a7 a8) {s : Nat} (hs : s < m) (H : ∀ n, cd_fr m P Q s n → post (nI n)) : wpX_freeFrom post (4, 4, nI m, a1, a2, a3, a4, a5, a6, a7, a8) (nI s) := by
  have hm := cd_ch_m h.2.1
  unfold wpX_freeFrom
  have one : ∀ n, n = 1 → cd_dl P Q s = 1 → ∀ s', s ≤ s' → s' < s + n → cd_dl P Q s' = 1 ∧ (P s' < P (s' + 1) ↔ P s < P (s + 1)) := by
    intro n hn hd s' y1 y2
    rw [show s' = s by omega]
    exact ⟨hd, Iff.rfl⟩
  refine pk_loop (σ := Unit) (fun f n _ => wX_freeFrom_2 post (nI s) 4 4 (nI m) a1 a2 a3 a4 a5 a6 a7 a8 f (nI n)) (fun n _ => 1 ≤ n ∧ s + n ≤ m ∧ (n = 1 ∨ ∀ s', s ≤ s' → s' < s + n → cd_dl P Q s' = 1 ∧ (P s' < P (s' + 1) ↔ P s < P (s + 1)))) (m - s) 1 () (by omega) ⟨by omega, by omega, Or.inl rfl⟩ ?_ ?_
  · rintro f _ ⟨h1, h2, h3⟩
    refine ⟨pk_in s 17 (by omega), ?_⟩
    rw [nI_clamp (n := s) (by omega)]
    refine ek_if (cd_a7 h ha hs) (fun d => ?_) (fun d => ?_)
    · refine pk_le m (s + (m - s)) (fun _ => H _ ⟨h1, h2, Or.inr ⟨?_, Or.inl (by omega)⟩⟩) (fun z => absurd z (by omega)) (hy := nI_add _ _)
      rcases h3 with e | e
      · exact one _ e d
      · exact e
    · refine H _ ⟨h1, h2, Or.inl ⟨?_, d⟩⟩
      rcases h3 with e | e
      · exact e
      · exact absurd (e s (by omega) (by omega)).1 d
  · rintro f n _ hn ⟨h1, h2, h3⟩ hw
    refine ⟨pk_in s 17 (by omega), ?_⟩
    rw [nI_clamp (n := s) (by omega), nI_add, nI_clamp (n := s + n) (by omega)]
    refine ek_if (cd_a7 h ha hs) (fun d => ?_) (fun d => ?_)
    · have run : ∀ s', s ≤ s' → s' < s + n → cd_dl P Q s' = 1 ∧ (P s' < P (s' + 1) ↔ P s < P (s + 1)) := by
        rcases h3 with e | e
        · exact one _ e d
        · exact e
      refine pk_le m (s + n) (fun z => absurd z (by omega)) (fun _ => ⟨pk_in (s + n) 17 (by omega), ?_⟩)
      refine ek_if (cd_a7 h ha (show s + n < m by omega)) (fun d2 => ⟨pk_in (s + n) 17 (by omega), pk_in s 17 (by omega), ?_⟩) (fun d2 => H _ ⟨h1, h2, Or.inr ⟨run, Or.inr (Or.inl d2)⟩⟩)
      refine ek_if (cd_a8 ha hs (show s + n < m by omega)) (fun d3 => nm_r (nI_1 n) (hw () ⟨by omega, by omega, Or.inr (fun s' y1 y2 => ?_)⟩)) (fun d3 => H _ ⟨h1, h2, Or.inr ⟨run, Or.inr (Or.inr d3)⟩⟩)
      rcases Nat.lt_or_ge s' (s + n) with y | y
      · exact run s' y1 y
      · rw [show s' = s + n by omega]
        exact ⟨d2, d3⟩
    · refine H _ ⟨h1, h2, Or.inl ⟨?_, d⟩⟩
      rcases h3 with e | e
      · exact e
      · exact absurd (e s (by omega) (by omega)).1 d
/-- step s begins a run -/
def cd_rs (m : Nat) (P Q : Nat → Nat) (s : Nat) : Prop := s = 0 ∨ s = m ∨ ¬ (cd_dl P Q (s - 1) = 1 ∧ cd_dl P Q s = 1 ∧ (P (s - 1) < P s ↔ P s < P (s + 1)))
theorem cd_frN (h : cd_F b o o' m P Q) {s n : Nat} (hs : s < m) (hr : cd_rs m P Q s) (hf : cd_fr m P Q s n) : cd_N b o o' P Q (s + n) + 1 = cd_N b o o' P Q s + 2 ^ n ∧ cd_rs m P Q (s + n) := by
  obtain ⟨h1, h2, h3⟩ := hf
  have step := fun s' (hs' : s' < m) => h.2.1.2.2.2 s' hs'
  rcases h3 with ⟨e, d⟩ | ⟨run, hend⟩
  · subst e
    obtain ⟨y1, y2, y3, _⟩ := step s hs
    have o1 := cd_one h hs
    unfold cd_dl at d
    have p1 : P s < P (s + 1) := by
      rcases Nat.lt_or_ge (P s) (P (s + 1)) with w | w
      · exact w
      · have := o1.2 (by omega)
        omega
    have q1 : Q s < Q (s + 1) := by
      rcases Nat.lt_or_ge (Q s) (Q (s + 1)) with w | w
      · exact w
      · have := o1.1 (by omega)
        omega
    have N := cd_Nbig h hs p1 q1
    refine ⟨by rw [N], Or.inr (Or.inr (fun z => ?_))⟩
    rw [show s + 1 - 1 = s by omega] at z
    exact d z.1
  · constructor
    · by_cases fl : P s < P (s + 1)
      · have go : ∀ k, k ≤ n → P (s + k) = P s + k ∧ Q (s + k) = Q s := by
          intro k
          induction k with
          | zero => exact fun _ => ⟨rfl, rfl⟩
          | succ k ih =>
            intro hk
            obtain ⟨i1, i2⟩ := ih (by omega)
            obtain ⟨r1, r2⟩ := run (s + k) (by omega) (by omega)
            have r3 := r2.mpr fl
            obtain ⟨y1, y2, y3, _⟩ := step (s + k) (by omega)
            unfold cd_dl at r1
            rw [show s + (k + 1) = s + k + 1 by omega]
            omega
        have g := go n (Nat.le_refl n)
        refine cd_Nrun h h2 (Or.inl ⟨g.2, ?_⟩) (by omega)
        rcases Nat.eq_zero_or_pos s with z | z
        · exact Or.inl z
        · right
          obtain ⟨y1, y2, y3, _⟩ := step (s - 1) (by omega)
          have o1 := (cd_one h (show s - 1 < m by omega)).1
          rw [show s - 1 + 1 = s by omega] at y1 y2 y3 o1
          rcases Nat.lt_or_ge (Q (s - 1)) (Q s) with w | w
          · exact w
          · have o2 := o1 (by omega)
            rcases hr with e | e | e
            · omega
            · omega
            · refine absurd ⟨?_, (run s (by omega) (by omega)).1, ⟨fun _ => fl, fun _ => by omega⟩⟩ e
              unfold cd_dl
              rw [show s - 1 + 1 = s by omega]
              omega
      · have go : ∀ k, k ≤ n → P (s + k) = P s ∧ Q (s + k) = Q s + k := by
          intro k
          induction k with
          | zero => exact fun _ => ⟨rfl, rfl⟩
          | succ k ih =>
            intro hk
            obtain ⟨i1, i2⟩ := ih (by omega)
            obtain ⟨r1, r2⟩ := run (s + k) (by omega) (by omega)
            have r3 : ¬ P (s + k) < P (s + k + 1) := fun w => fl (r2.mp w)
            obtain ⟨y1, y2, y3, _⟩ := step (s + k) (by omega)
            unfold cd_dl at r1
            rw [show s + (k + 1) = s + k + 1 by omega]
            omega
        have g := go n (Nat.le_refl n)
        refine cd_Nrun h h2 (Or.inr ⟨g.1, ?_⟩) (by omega)
        rcases Nat.eq_zero_or_pos s with z | z
        · exact Or.inl z
        · right
          obtain ⟨y1, y2, y3, _⟩ := step (s - 1) (by omega)
          have o1 := (cd_one h (show s - 1 < m by omega)).2
          rw [show s - 1 + 1 = s by omega] at y1 y2 y3 o1
          rcases Nat.lt_or_ge (P (s - 1)) (P s) with w | w
          · exact w
          · have o2 := o1 (by omega)
            rcases hr with e | e | e
            · omega
            · omega
            · refine absurd ⟨?_, (run s (by omega) (by omega)).1, ⟨fun y => absurd y (by omega), fun y => absurd y fl⟩⟩ e
              unfold cd_dl
              rw [show s - 1 + 1 = s by omega]
              omega
    · obtain ⟨r1, r2⟩ := run (s + n - 1) (by omega) (by omega)
      rcases hend with e | e | e
      · exact Or.inr (Or.inl e)
      · exact Or.inr (Or.inr (fun z => e z.2.1))
      · refine Or.inr (Or.inr (fun z => e ?_))
        have z3 := z.2.2
        rw [show s + n - 1 + 1 = s + n by omega] at r2
        exact z3.symm.trans r2
theorem cd_lifts {post : Int32 → St2 → Prop} (hK : cd_K b a1 a2 a3) (H : ∀ st a4 a5 a6 a7 a8, post (nI (cd_lf b)) (4, 4, st, a1, a2, a3, a4, a5, a6, a7, a8)) : wpX_lifts post (4, 4, st, a1, a2, a3, a4, a5, a6, a7, a8) := by
  unfold wpX_lifts
  refine cd_find hK (fun m o o' P Q a4 a5 a6 a7 a8 hS hc hP hQ ha => ?_)
  have h : cd_F b o o' m P Q := ⟨hS, hc, hP, hQ⟩
  have hm := cd_ch_m hc
  have key : ∃ n, wX_lifts_8 post 4 4 (nI m) a1 a2 a3 a4 a5 a6 a7 a8 n (nI (cd_N b o o' P Q 0 - 1)) (nI 0) := by
    refine loop_m (σ := Nat) (fun f s => wX_lifts_8 post 4 4 (nI m) a1 a2 a3 a4 a5 a6 a7 a8 f (nI (cd_N b o o' P Q s - 1)) (nI s)) (fun s => s ≤ m ∧ 1 ≤ cd_N b o o' P Q s ∧ cd_rs m P Q s) (fun s => m - s) ?_ 0 ⟨by omega, by rw [cd_N0 h]; exact Nat.le_refl 1, Or.inl rfl⟩
    rintro f s ⟨h1, h2, h3⟩ hk
    refine pk_le m s (fun z => ?_) (fun z => cd_free h ha z (fun n hn => ?_))
    · have e : s = m := by omega
      rw [e, cd_Nm h, show cd_lf b + 2 - 1 = cd_lf b + 1 by omega, nI_pred]
      exact H _ _ _ _ _ _
    · obtain ⟨N1, N2⟩ := cd_frN h z h3 hn
      have n1 := hn.1
      have n2 := hn.2.1
      have p2 : 1 ≤ 2 ^ n := Nat.one_le_two_pow
      refine nm_r (e' := nI (cd_N b o o' P Q (s + n) - 1)) ?_ (nm_r (nI_add s n) (hk (s + n) ⟨n2, by omega, N2⟩ (by omega)))
      rw [cd_pow n (by omega), nI_add, show cd_N b o o' P Q s - 1 + 2 ^ n = cd_N b o o' P Q (s + n) - 1 + 1 by omega, nI_pred]
  rw [cd_N0 h] at key
  exact key
theorem cd_layers {post : Int32 → St2 → Prop} (hK : cd_K b a1 a2 a3) (H : ∀ st a4 a5 a6 a7 a8, post (nI (cd_cn (cd_fresh b) 12)) (4, 4, st, a1, a2, a3, a4, a5, a6, a7, a8)) : wpX_layers post (4, 4, st, a1, a2, a3, a4, a5, a6, a7, a8) := by
  unfold wpX_layers
  refine cd_find hK (fun m o o' P Q a4 a5 a6 a7 a8 hS hc hP hQ ha => ?_)
  have e := H (nI m) a4 a5 a6 a7 a8
  rw [cd_cls (⟨hS, hc, hP, hQ⟩ : cd_F b o o' m P Q)] at e
  exact e
theorem cd_hangs {post : Int32 → St2 → Prop} (hK : cd_K b a1 a2 a3) (H : ∀ st a4 a5 a6 a7 a8, post (if cd_cn (cd_fresh b) 12 = 1 then 1 else 0) (4, 4, st, a1, a2, a3, a4, a5, a6, a7, a8)) : wpX_hangs post (4, 4, st, a1, a2, a3, a4, a5, a6, a7, a8) := by
  unfold wpX_hangs
  refine cd_find hK (fun m o o' P Q a4 a5 a6 a7 a8 hS hc hP hQ ha => ?_)
  have hm := cd_ch_m hc
  have e := H (nI m) a4 a5 a6 a7 a8
  rw [cd_cls (⟨hS, hc, hP, hQ⟩ : cd_F b o o' m P Q)] at e
  refine pk_eq m 1 (fun z => ?_) (fun z => ?_)
  · rw [if_pos z] at e
    exact e
  · rw [if_neg z] at e
    exact e
theorem cd_badT {post : Int32 → Prop} {t : Nat} (ht : cd_th t) (H : post 0) : wpX_badThread post (4, 4, st, a1, a2, a3, a4, a5, a6, a7, a8) (nI t) := by
  have t12 : t < 12 := by
    rcases ht with z | z <;> omega
  refine pk_lt t 0 (fun z => absurd z (by omega)) (fun _ => pk_le 12 t (fun z => absurd z (by omega)) (fun _ => pk_lt t 4 (fun _ => H) (fun z => pk_le 8 t (fun _ => H) (fun z' => ?_))) (hx := by decide))
  rcases ht with y | y <;> omega
theorem cd_bad12 {post : Int32 → Prop} (H : post 1) : wpX_badThread post (4, 4, st, a1, a2, a3, a4, a5, a6, a7, a8) 12 :=
  pk_lt 12 0 (fun z => absurd z (by omega)) (fun _ => pk_le 12 12 (fun _ => H) (fun z => absurd z (by omega)) (hx := by decide))
theorem cd_badq {post : Int32 → Prop} (H : post 1) : wpX_badThread post (4, 4, st, a1, a2, a3, a4, a5, a6, a7, a8) 4 :=
  pk_lt 4 0 (fun z => absurd z (by omega)) (fun _ => pk_le 12 4 (fun z => absurd z (by omega)) (fun _ => pk_lt 4 4 (fun z => absurd z (by omega)) (fun _ => pk_le 8 4 (fun z => absurd z (by omega)) (fun _ => H))) (hx := by decide))
theorem cd_tog4 {post : Int32 → St2 → Prop} (H : post (-1) (4, 4, st, a1, a2, a3, a4, a5, a6, a7, a8)) : wpX_together post (4, 4, st, a1, a2, a3, a4, a5, a6, a7, a8) 4 0 := by
  unfold wpX_together
  exact cd_badq (br_f (by decide) H)
theorem cd_tog12 {post : Int32 → St2 → Prop} (H : post (-1) (4, 4, st, a1, a2, a3, a4, a5, a6, a7, a8)) : wpX_together post (4, 4, st, a1, a2, a3, a4, a5, a6, a7, a8) 0 12 := by
  unfold wpX_together
  exact cd_badT (t := 0) (Or.inl (by omega)) (br_t rfl (cd_bad12 (br_f (by decide) H)))
theorem cd_stepOf (h : cd_F b o o' m P Q) (ha : cd_ar o o' m P Q a6 a7 a8) {s t : Nat} (hs : s < m) (hD : cd_D o o' P Q s t) : a6 t = nI s := by
  rcases hD with ⟨i, h1, h2, h3, h4⟩ | ⟨j, h1, h2, h3, h4⟩
  · rw [h4]
    exact (ha s hs).1 i h2 h3
  · rw [h4]
    exact (ha s hs).2.1 j h2 h3
theorem cd_tog {post : Int32 → St2 → Prop} (hK : cd_K b a1 a2 a3) {t u : Nat} (ht : cd_th t) (hu : cd_th u) (H : ∀ st a4 a5 a6 a7 a8, post (nI (cd_in (cd_Re b t u ∧ cd_Re b u t))) (4, 4, st, a1, a2, a3, a4, a5, a6, a7, a8)) : wpX_together post (4, 4, st, a1, a2, a3, a4, a5, a6, a7, a8) (nI t) (nI u) := by
  have t12 : t < 12 := by
    rcases ht with z | z <;> omega
  have u12 : u < 12 := by
    rcases hu with z | z <;> omega
  unfold wpX_together
  refine cd_badT ht (br_t rfl (cd_badT hu (br_t rfl ?_)))
  refine cd_find hK (fun m o o' P Q a4 a5 a6 a7 a8 hS hc hP hQ ha => ?_)
  have h : cd_F b o o' m P Q := ⟨hS, hc, hP, hQ⟩
  have hm := cd_ch_m hc
  have e := H (nI m) a4 a5 a6 a7 a8
  obtain ⟨s, hs, hD⟩ := cd_Dex h ht
  obtain ⟨s', hs', hD'⟩ := cd_Dex h hu
  have M := cd_mut h hs hs' hD hD'
  refine ⟨pk_in t 16 (by omega), pk_in u 16 (by omega), ?_⟩
  rw [nI_clamp (n := t) (by omega), nI_clamp (n := u) (by omega), cd_stepOf h ha hs hD, cd_stepOf h ha hs' hD']
  refine pk_eq s s' (fun z => ?_) (fun z => ?_)
  · rw [cd_in_t (M.mpr z)] at e
    exact e
  · rw [cd_in_f (fun w => z (M.mp w))] at e
    exact e
theorem cd_divs {post : Int32 → St2 → Prop} (hK : cd_K b a1 a2 a3) (hc1 : cd_cn (cd_fresh b) 12 ≤ 1) (H : ∀ st a4 a5 a6 a7 a8, post 1 (4, 4, st, a1, a2, a3, a4, a5, a6, a7, a8)) : wpX_divisions post (4, 4, st, a1, a2, a3, a4, a5, a6, a7, a8) := by
  unfold wpX_divisions
  refine cd_find hK (fun m o o' P Q a4 a5 a6 a7 a8 hS hc hP hQ ha => ?_)
  have h : cd_F b o o' m P Q := ⟨hS, hc, hP, hQ⟩
  rw [cd_cls h] at hc1
  have m1 : m = 1 := by
    rcases Nat.eq_zero_or_pos m with z | z
    · rw [z, hc.1] at hP
      omega
    · omega
  subst m1
  refine ⟨2, pk_le 1 0 (fun z => absurd z (by omega)) (fun _ => cd_free (s := 0) h ha (by omega) (fun n hn => ?_))⟩
  have n1 : n = 1 := by
    have := hn.1
    have := hn.2.1
    omega
  subst n1
  exact ⟨1, pk_lt 1 2 (fun _ => nm_r (e' := nI 1) (by decide) (pk_le 1 1 (fun _ => H _ _ _ _ _ _) (fun z => absurd z (by omega)))) (fun z => absurd z (by omega))⟩
end
end
section
/-! the calls that rest on findUnder: over, longest, liftable -/
/-- is thread t above, at its i-th crossing -/
def cd_h (b : Nat → Bool) (t i : Nat) : Bool := if t < 4 then b (4 * i + t) else !b (4 * (t - 8) + i)
def cd_run (h : Nat → Bool) : Nat → Nat
  | 0 => 0
  | i + 1 => if i = 0 ∨ h i = h (i - 1) then cd_run h i + 1 else 1
def cd_bst (h : Nat → Bool) : Nat → Nat
  | 0 => 0
  | i + 1 => if cd_run h (i + 1) ≤ cd_bst h i then cd_bst h i else cd_run h (i + 1)
theorem cd_run_le (h : Nat → Bool) : ∀ i, cd_run h i ≤ i
  | 0 => Nat.le_refl 0
  | i + 1 => by
    have k := cd_run_le h i
    show (if i = 0 ∨ h i = h (i - 1) then cd_run h i + 1 else 1) ≤ i + 1
    split <;> omega
theorem cd_bst_le (h : Nat → Bool) : ∀ i, cd_bst h i ≤ i
  | 0 => Nat.le_refl 0
  | i + 1 => by
    have k := cd_bst_le h i
    have k2 := cd_run_le h (i + 1)
    show (if cd_run h (i + 1) ≤ cd_bst h i then cd_bst h i else cd_run h (i + 1)) ≤ i + 1
    split <;> omega
theorem cd_ov (b : Nat → Bool) {t : Nat} (ht : cd_th t) : cd_g b t = cd_sum (fun i => (cd_h b t i).toNat) 4 := by
  show cd_g b t = 0 + (cd_h b t 0).toNat + (cd_h b t 1).toNat + (cd_h b t 2).toNat + (cd_h b t 3).toNat
  unfold cd_h
  rcases ht with z | z
  · rw [cd_g_w b z, if_pos z, if_pos z, if_pos z, if_pos z]
    omega
  · obtain ⟨r, hr, rfl⟩ : ∃ r, r < 4 ∧ t = 8 + r := ⟨t - 8, by omega, by omega⟩
    rw [cd_g_f b hr, if_neg (by omega), if_neg (by omega), if_neg (by omega), if_neg (by omega), Nat.zero_add, show 8 + r - 8 = r by omega]
theorem cd_un_h (b : Nat → Bool) {t i : Nat} (ht : cd_th t) (hi : i < 4) : (cd_un b 16 t).testBit ((if t < 4 then 8 else 0) + i) = cd_h b t i := by
  unfold cd_h
  rcases ht with z | z
  · rw [if_pos z, if_pos z, cd_un_w b z, decide_eq_true (by omega), Bool.true_and, show 8 + i - 8 = i by omega]
  · obtain ⟨r, hr, rfl⟩ : ∃ r, r < 4 ∧ t = 8 + r := ⟨t - 8, by omega, by omega⟩
    rw [if_neg (by omega), if_neg (by omega), cd_un_f b hr, decide_eq_true (by omega), Bool.true_and, show 8 + r - 8 = r by omega, Nat.zero_add]
section
variable {b : Nat → Bool} {st : Int32} {a1 a2 a3 a4 a5 a6 a7 a8 : Nat → Int32}
theorem cd_over {post : Int32 → St2 → Prop} (hK : cd_K b a1 a2 a3) {t : Nat} (ht : cd_th t) (H : ∀ st a4 a5 a6 a7 a8, post (nI (cd_sum (fun i => (cd_h b t i).toNat) 4)) (4, 4, st, a1, a2, a3, a4, a5, a6, a7, a8)) : wpX_over post (4, 4, st, a1, a2, a3, a4, a5, a6, a7, a8) (nI t) := by
  have t12 : t < 12 := by
    rcases ht with z | z <;> omega
  unfold wpX_over
  refine cd_badT ht (br_t rfl (cd_fu hK (fun u4 hU => ⟨pk_in t 16 (by omega), ?_⟩)))
  rw [nI_clamp (n := t) (by omega), hU t (by omega)]
  refine cd_size ?_
  have e := H st u4 a5 a6 a7 a8
  rw [← cd_ov b ht] at e
  exact e
theorem cd_long54 {post : Int32 → St2 → Prop} (hU : cd_U b a4) {t fi : Nat} (ht : cd_th t) (hfi : fi = if t < 4 then 8 else 0) (H : post (nI (cd_bst (cd_h b t) 4)) (4, 4, st, a1, a2, a3, a4, a5, a6, a7, a8)) : ∃ n, wX_longest_54 post (nI t) (nI fi) 4 4 4 st a1 a2 a3 a4 a5 a6 a7 a8 n 0 0 0 := by
  have t12 : t < 12 := by
    rcases ht with z | z <;> omega
  have f8 : fi ≤ 8 := by
    rw [hfi]
    split <;> omega
  have bitv : ∀ i, i < 4 → (nI (cd_un b 16 t) >>> (nI (fi + i) &&& 31)) &&& 1 = nI (cd_h b t i).toNat := by
    intro i hi
    rw [cd_bit _ _ (by omega), cd_b_nI _ (by omega), hfi, cd_un_h b ht hi]
  have beq : ∀ x y : Bool, nI x.toNat = nI y.toNat ↔ x = y := by decide
  refine pk_loop (σ := Unit) (fun n i _ => wX_longest_54 post (nI t) (nI fi) 4 4 4 st a1 a2 a3 a4 a5 a6 a7 a8 n (nI (cd_bst (cd_h b t) i)) (nI (cd_run (cd_h b t) i)) (nI i)) (fun _ _ => True) 4 0 () (by omega) trivial (fun n _ _ => pk_le 4 4 (fun _ => H) (fun z => absurd z (by omega))) ?_
  intro n i _ hi _ hw
  have W : wX_longest_54 post (nI t) (nI fi) 4 4 4 st a1 a2 a3 a4 a5 a6 a7 a8 n (nI (cd_bst (cd_h b t) (i + 1))) (nI (cd_run (cd_h b t) (i + 1))) (nI (i + 1)) := hw () trivial
  have r1 := cd_run_le (cd_h b t) (i + 1)
  have b1 := cd_bst_le (cd_h b t) i
  have fin : wX_longest_119 post (wX_longest_54 post (nI t) (nI fi) 4 4 4 st a1 a2 a3 a4 a5 a6 a7 a8 n) (nI t) (nI (cd_bst (cd_h b t) i)) (nI fi) 4 (nI i) (nI (cd_run (cd_h b t) (i + 1))) 4 4 st a1 a2 a3 a4 a5 a6 a7 a8 := by
    have eb : cd_bst (cd_h b t) (i + 1) = if cd_run (cd_h b t) (i + 1) ≤ cd_bst (cd_h b t) i then cd_bst (cd_h b t) i else cd_run (cd_h b t) (i + 1) := rfl
    refine pk_le (cd_run (cd_h b t) (i + 1)) (cd_bst (cd_h b t) i) (fun z => nm_r (nI_1 i) ?_) (fun z => nm_r (nI_1 i) ?_)
    · rw [eb, if_pos z] at W
      exact W
    · rw [eb, if_neg (by omega)] at W
      exact W
  have er : cd_run (cd_h b t) (i + 1) = if i = 0 ∨ cd_h b t i = cd_h b t (i - 1) then cd_run (cd_h b t) i + 1 else 1 := rfl
  refine pk_le 4 i (fun z => absurd z (by omega)) (fun _ => ⟨pk_in t 16 (by omega), nm_r (e' := nI (cd_h b t i).toNat) (by rw [nI_clamp (n := t) (by omega), hU t (by omega), nI_add, bitv i hi]) ?_⟩)
  refine pk_le i 0 (fun z => ?_) (fun z => ⟨pk_in t 16 (by omega), ?_⟩)
  · rw [er, if_pos (Or.inl (by omega))] at fin
    refine br_t rfl ?_
    rw [nI_1]
    exact fin
  · rw [nI_clamp (n := t) (by omega), hU t (by omega), nI_add, show nI (fi + i) - 1 = nI (fi + (i - 1)) by rw [show fi + i = fi + (i - 1) + 1 by omega]; exact nI_pred _, bitv (i - 1) (by omega)]
    refine ek_if (beq _ _) (fun e => ?_) (fun e => ?_)
    · rw [er, if_pos (Or.inr e)] at fin
      rw [nI_1]
      exact fin
    · rw [er, if_neg (by
        rintro (y | y)
        · omega
        · exact e y)] at fin
      exact fin
theorem cd_long {post : Int32 → St2 → Prop} (hK : cd_K b a1 a2 a3) {t : Nat} (ht : cd_th t) (H : ∀ st a4 a5 a6 a7 a8, post (nI (cd_bst (cd_h b t) 4)) (4, 4, st, a1, a2, a3, a4, a5, a6, a7, a8)) : wpX_longest post (4, 4, st, a1, a2, a3, a4, a5, a6, a7, a8) (nI t) := by
  have t12 : t < 12 := by
    rcases ht with z | z <;> omega
  unfold wpX_longest
  refine cd_badT ht (br_t rfl (cd_fu hK (fun u4 hU => ?_)))
  refine pk_le 8 t (fun z => ?_) (fun z => ?_)
  · exact pk_le 8 t (fun _ => cd_long54 (fi := 0) hU ht (by rw [if_neg (by omega)]) (H _ _ _ _ _ _)) (fun z' => absurd z' (by omega))
  · have t4 : t < 4 := by
      rcases ht with y | y <;> omega
    exact pk_le 8 t (fun z' => absurd z' (by omega)) (fun _ => cd_long54 (fi := 8) hU ht (by rw [if_pos t4]) (H _ _ _ _ _ _))
/-- what liftable asks of thread t -/
def cd_lo (b : Nat → Bool) (own t : Nat) : Prop := own.testBit t = true → ∀ i, i < 12 → (if t < 8 then 8 ≤ i else i < 4) → own.testBit i = true ∨ (cd_un b 16 t).testBit i = true
theorem cd_lmask {own un cr : Nat} : (nI cr &&& (nI own ^^^ (-1))) &&& (nI un ^^^ (-1)) = 0 ↔ ∀ i, i < 32 → cr.testBit i = true → own.testBit i = true ∨ un.testBit i = true := by
  have bits : ∀ i, i < 32 → cd_b ((nI cr &&& (nI own ^^^ (-1))) &&& (nI un ^^^ (-1))) i = ((cr.testBit i && !own.testBit i) && !un.testBit i) := by
    intro i hi
    rw [cd_b_and, cd_b_and, cd_b_xor, cd_b_xor, cd_b_m1 i hi, cd_b_nI _ hi, cd_b_nI _ hi, cd_b_nI _ hi, Bool.xor_true, Bool.xor_true]
  constructor
  · intro h i hi hc
    have e := bits i hi
    rw [h, show cd_b 0 i = (0 : Nat).testBit i from cd_b_nI 0 hi, Nat.zero_testBit, hc] at e
    cases h1 : own.testBit i
    · cases h2 : un.testBit i
      · rw [h1, h2] at e
        exact absurd e (by decide)
      · exact Or.inr rfl
    · exact Or.inl rfl
  · intro h
    apply cd_ext
    intro i hi
    rw [bits i hi, show cd_b 0 i = (0 : Nat).testBit i from cd_b_nI 0 hi, Nat.zero_testBit]
    cases hc : cr.testBit i
    · rfl
    · rcases h i hi hc with z | z
      · rw [z]
        rfl
      · rw [z, Bool.not_true, Bool.and_false]
theorem cd_lo_w : ∀ i, i < 32 → ((3840 : Nat).testBit i = true ↔ (8 ≤ i ∧ i < 12)) := by decide +kernel
theorem cd_lo_f : ∀ i, i < 32 → ((15 : Nat).testBit i = true ↔ i < 4) := by decide +kernel
theorem cd_lo_cl {own : Nat} (ho : ∀ i, own.testBit i = true → cd_th i) : (∀ t, t < 12 → cd_lo b own t) ↔ cd_cl b (fun i => own.testBit i = true) := by
  constructor
  · intro h c r hc hr
    constructor
    · intro hb hx
      have k := h (8 + r) (by omega) hx c (by omega) (by rw [if_neg (by omega)]; exact hc)
      rcases k with z | z
      · exact z
      · rw [cd_un_f b hr, hb, Bool.not_true, Bool.and_false] at z
        exact absurd z (by decide)
    · intro hb hx
      have k := h c (by omega) hx (8 + r) (by omega) (by rw [if_pos (by omega)]; omega)
      rcases k with z | z
      · exact z
      · rw [cd_un_w b hc, show 8 + r - 8 = r by omega, hb, Bool.and_false] at z
        exact absurd z (by decide)
  · intro h t ht hx i hi hcr
    rcases ho t hx with z | z
    · rw [if_pos (by omega)] at hcr
      obtain ⟨r, hr, rfl⟩ : ∃ r, r < 4 ∧ i = 8 + r := ⟨i - 8, by omega, by omega⟩
      have k := (h t r z hr).2
      rw [cd_un_w b z, show 8 + r - 8 = r by omega, decide_eq_true (by omega), Bool.true_and]
      cases hb : b (4 * r + t)
      · exact Or.inl (k hb hx)
      · exact Or.inr rfl
    · rw [if_neg (by omega)] at hcr
      obtain ⟨r, hr, rfl⟩ : ∃ r, r < 4 ∧ t = 8 + r := ⟨t - 8, by omega, by omega⟩
      have k := (h i r hcr hr).1
      rw [cd_un_f b hr, decide_eq_true hcr, Bool.true_and]
      cases hb : b (4 * r + i)
      · exact Or.inr rfl
      · exact Or.inl (k hb hx)
theorem cd_lift73 {post : Int32 → St2 → Prop} {J16 : Int32 → Int32 → Prop} (hU : cd_U b a4) {own t cr : Nat} {p : Prop} (ht : t < 12) (hcr : ∀ i, i < 32 → (cr.testBit i = true ↔ (i < 12 ∧ (if t < 8 then 8 ≤ i else i < 4))))
    (H : J16 (nI (cd_in (p ∧ cd_lo b own t))) (nI (t + 1))) : wX_liftable_56 post J16 (nI own) (nI (cd_in p)) (nI t) (nI cr) 4 4 st a1 a2 a3 a4 a5 a6 a7 a8 := by
  have key : ∀ x : Bool, x = own.testBit t → wX_liftable_73 post J16 (nI own) (nI (cd_in p)) (nI t) (nI cr) (nI x.toNat) 4 4 st a1 a2 a3 a4 a5 a6 a7 a8 := by
    intro x hx
    by_cases hp : p
    · rw [cd_in_t hp]
      refine br_f (by decide) ?_
      cases x
      · rw [cd_in_t ⟨hp, fun z => by rw [← hx] at z; exact absurd z (by decide)⟩] at H
        exact br_t rfl (nm_r (nI_1 t) H)
      · refine br_f (by decide) ⟨pk_in t 16 (by omega), ?_⟩
        rw [nI_clamp (n := t) (by omega), hU t (by omega)]
        refine ek_if cd_lmask (fun k => ?_) (fun k => ?_)
        · rw [cd_in_t ⟨hp, fun _ i hi hc => k i (by omega) ((hcr i (by omega)).mpr ⟨hi, hc⟩)⟩] at H
          exact nm_r (nI_1 t) H
        · rw [cd_in_f (fun z => k (fun i hi hc => z.2 hx.symm i ((hcr i hi).mp hc).1 ((hcr i hi).mp hc).2))] at H
          exact nm_r (nI_1 t) H
    · rw [cd_in_f hp]
      rw [cd_in_f (fun z => hp z.1)] at H
      exact br_t rfl (nm_r (nI_1 t) H)
  unfold wX_liftable_56
  rw [cd_bit _ t (by omega), cd_b_nI _ (by omega)]
  cases hx : own.testBit t
  · exact br_f (by decide) (key false hx.symm)
  · exact br_t (by decide) (key true hx.symm)
theorem cd_liftable {post : Int32 → St2 → Prop} (hK : cd_K b a1 a2 a3) {p0 : Int32} {own : Nat} (he : p0 &&& 3855 = nI own) (ho : ∀ i, own.testBit i = true → cd_th i) (H : ∀ st a4 a5 a6 a7 a8, post (nI (cd_in (cd_cl b (fun i => own.testBit i = true)))) (4, 4, st, a1, a2, a3, a4, a5, a6, a7, a8)) : wpX_liftable post (4, 4, st, a1, a2, a3, a4, a5, a6, a7, a8) p0 := by
  unfold wpX_liftable
  refine cd_fu hK (fun u4 hU => ?_)
  have ev : (((1 : Int32) <<< ((4 : Int32) &&& 31)) - 1) ||| ((((1 : Int32) <<< ((4 : Int32) &&& 31)) - 1) <<< ((8 : Int32) &&& 31)) = 3855 := by decide
  have e15 : (((1 : Int32) <<< ((4 : Int32) &&& 31)) - 1) = nI 15 := by decide
  have e38 : ((((((1 : Int32) <<< ((4 : Int32) &&& 31)) - 1) ||| ((((1 : Int32) <<< ((4 : Int32) &&& 31)) - 1) <<< ((8 : Int32) &&& 31))) >>> ((8 : Int32) &&& 31)) <<< ((8 : Int32) &&& 31)) = nI 3840 := by decide
  refine nm_r (e' := nI own) (by rw [ev]; exact he) ?_
  have key : ∃ n, wX_liftable_16 post (nI own) 4 4 st a1 a2 a3 u4 a5 a6 a7 a8 n (nI (cd_in (∀ t, t < 0 → cd_lo b own t))) (nI 0) := by
    refine pk_loop (σ := Unit) (fun n i _ => wX_liftable_16 post (nI own) 4 4 st a1 a2 a3 u4 a5 a6 a7 a8 n (nI (cd_in (∀ t, t < i → cd_lo b own t))) (nI i)) (fun _ _ => True) 12 0 () (by omega) trivial ?_ ?_
    · intro n _ _
      have e := H st u4 a5 a6 a7 a8
      rw [← cd_in_c (cd_lo_cl (b := b) ho)] at e
      refine pk_le 12 12 (fun _ => ?_) (fun z => absurd z (by omega)) (hx := by decide)
      by_cases hp : ∀ t, t < 12 → cd_lo b own t
      · rw [cd_in_t hp] at e ⊢
        exact br_f (by decide) e
      · rw [cd_in_f hp] at e ⊢
        exact br_t rfl e
    · intro n i _ hi _ hw
      have W : wX_liftable_16 post (nI own) 4 4 st a1 a2 a3 u4 a5 a6 a7 a8 n (nI (cd_in ((∀ t, t < i → cd_lo b own t) ∧ cd_lo b own i))) (nI (i + 1)) := by
        have w := hw () trivial
        rw [cd_in_c (show (∀ t, t < i + 1 → cd_lo b own t) ↔ ((∀ t, t < i → cd_lo b own t) ∧ cd_lo b own i) from ⟨fun z => ⟨fun t ht => z t (by omega), z i (by omega)⟩, fun z t ht => by
          rcases Nat.lt_or_ge t i with y | y
          · exact z.1 t y
          · rw [show t = i by omega]
            exact z.2⟩)] at w
        exact w
      refine pk_le 12 i (fun z => absurd z (by omega)) (fun _ => ?_) (hx := by decide)
      refine pk_le 8 i (fun z => ?_) (fun z => ?_)
      · rw [e15]
        exact cd_lift73 hU hi (fun k hk => by
          rw [cd_lo_f k hk, if_neg (by omega)]
          omega) W
      · show wX_liftable_56 _ _ _ _ _ ((((((1 : Int32) <<< ((4 : Int32) &&& 31)) - 1) ||| ((((1 : Int32) <<< ((4 : Int32) &&& 31)) - 1) <<< ((8 : Int32) &&& 31))) >>> ((8 : Int32) &&& 31)) <<< ((8 : Int32) &&& 31)) _ _ _ _ _ _ _ _ _ _ _
        rw [e38]
        exact cd_lift73 hU hi (fun k hk => by
          rw [cd_lo_w k hk, if_pos (by omega)]
          omega) W
  rw [cd_in_t (show ∀ t, t < 0 → cd_lo b own t from fun t ht => absurd ht (by omega))] at key
  exact key
end
end
section
/-! the law's loops over all sets and all threads -/
def cd_sp (x : Nat) : Nat := x % 16 + 256 * (x / 16)
theorem cd_spv : ∀ x, x < 256 → (nI x &&& 15) ||| ((nI x &&& 240) <<< ((4 : Int32) &&& 31)) = nI (cd_sp x) := by decide +kernel
theorem cd_sp_lt {x : Nat} (h : x < 256) : cd_sp x < 4096 := by
  unfold cd_sp
  omega
theorem cd_sp_bit : ∀ x, x < 256 → ∀ t, t < 12 → ((cd_sp x).testBit t = true ↔ ((t < 4 ∧ x.testBit t = true) ∨ (8 ≤ t ∧ t < 12 ∧ x.testBit (t - 4) = true))) := by decide +kernel
theorem cd_big {n t : Nat} (h : n < 4096) (ht : 12 ≤ t) : n.testBit t = false := by
  have p : 2 ^ 12 ≤ 2 ^ t := Nat.pow_le_pow_right (by omega) ht
  exact Nat.testBit_lt_two_pow (by omega)
theorem cd_sp_mk {x t : Nat} (hx : x < 256) : (cd_sp x).testBit t = true ↔ cd_mk x t := by
  rcases Nat.lt_or_ge t 12 with h | h
  · exact cd_sp_bit x hx t h
  · rw [cd_big (cd_sp_lt hx) h]
    constructor
    · intro z
      exact absurd z (by decide)
    · rintro (z | z)
      · omega
      · omega
theorem cd_need {b : Nat → Bool} {x need : Nat} (hx : x < 256) (h : ∀ i, need.testBit i = true ↔ ∃ t, t < 12 ∧ (cd_sp x).testBit t = true ∧ cd_Re b t i) : need = cd_sp x ↔ cd_cl b (cd_mk x) := by
  constructor
  · intro e c r hc hr
    rw [e] at h
    refine ⟨fun hb hm => ?_, fun hb hm => ?_⟩
    · refine (cd_sp_mk hx).mp ((h c).mpr ⟨8 + r, by omega, (cd_sp_mk hx).mpr hm, ?_⟩)
      exact (cd_re_cl c r hc hr).1 hb cd_re_self
    · refine (cd_sp_mk hx).mp ((h (8 + r)).mpr ⟨c, by omega, (cd_sp_mk hx).mpr hm, ?_⟩)
      exact (cd_re_cl c r hc hr).2 hb cd_re_self
  · intro hc
    apply Nat.eq_of_testBit_eq
    intro i
    rw [Bool.eq_iff_iff, h]
    constructor
    · rintro ⟨t, ht, h1, h2⟩
      exact (cd_sp_mk hx).mpr (h2 _ hc ((cd_sp_mk hx).mp h1))
    · intro z
      have y := cd_mk_th ((cd_sp_mk hx).mp z)
      refine ⟨i, ?_, z, cd_re_self⟩
      rcases y with w | w <;> omega
theorem cd_two (x y : Int32) {k l : Nat} (hk : k < 32) (hl : l < 32) : ((x >>> (nI k &&& 31)) &&& (y >>> (nI l &&& 31))) &&& 1 = nI (cd_b x k && cd_b y l).toNat := by
  have e : ((x >>> (nI k &&& 31)) &&& (y >>> (nI l &&& 31))) &&& 1 = ((x >>> (nI k &&& 31)) &&& 1) &&& ((y >>> (nI l &&& 31)) &&& 1) := by
    apply cd_ext
    intro i _
    rw [cd_b_and, cd_b_and, cd_b_and, cd_b_and, cd_b_and]
    cases cd_b (x >>> (nI k &&& 31)) i <;> cases cd_b (y >>> (nI l &&& 31)) i <;> cases cd_b 1 i <;> rfl
  rw [e, cd_bit x k hk, cd_bit y l hl]
  cases cd_b x k <;> cases cd_b y l <;> decide
section
variable {post : Int32 → St0 → Prop} {mc ms kc ks : Nat} {R x3 x5 x6 x7 x8 x9 x10 x11 x12 x13 x14 x15 x16 fw fh st : Int32} {a1 a2 a3 a4 a5 a6 a7 a8 : Nat → Int32}
theorem cd_l226 {J134 : Int32 → Int32 → Int32 → Prop} {x s nd own : Nat} {q c : Prop} (hs : s < 4096) (hn : nd < 4096) (ho : own < 4096) (hc : nd = s ↔ c)
    (H : J134 x8 (nI (cd_in (q ∧ ¬ (s = own ∧ ¬ c)))) (nI (x + 1))) : wL_lawOf_226 post mc ms J134 R x3 x5 x6 (nI own) x8 x9 x10 x11 x12 (nI (cd_in q)) x14 x15 x16 (nI x) (nI s) (nI nd) kc ks fw fh st a1 a2 a3 a4 a5 a6 a7 a8 := by
  have same : ¬ (s = own ∧ ¬ c) → J134 x8 (nI (cd_in q)) (nI (x + 1)) := by
    intro z
    rw [cd_in_c (show (q ∧ ¬ (s = own ∧ ¬ c)) ↔ q from ⟨fun w => w.1, fun w => ⟨w, z⟩⟩)] at H
    exact H
  refine pk_eq s own (fun e => pk_eq nd s (fun e2 => nm_r (nI_1 x) (same (fun w => w.2 (hc.mp e2)))) (fun e2 => nm_r (nI_1 x) ?_)) (fun e => nm_r (nI_1 x) (same (fun w => e w.1)))
  rw [cd_in_f (fun w => w.2 ⟨e, fun cc => e2 (hc.mpr cc)⟩)] at H
  exact H
theorem cd_l164 {J134 : Int32 → Int32 → Int32 → Prop} {x N own : Nat} {q : Prop} (hx : x < 256) (ho : own < 4096)
    (H : J134 (nI (N + cd_in (0 < x ∧ x < 255 ∧ cd_cl (cd_b R) (cd_mk x)))) (nI (cd_in (q ∧ ¬ (cd_sp x = own ∧ ¬ cd_cl (cd_b R) (cd_mk x))))) (nI (x + 1))) :
    ∃ n, wL_lawOf_164 post mc ms J134 R x3 x5 x6 (nI own) (nI N) x9 x10 x11 x12 (nI (cd_in q)) x14 x15 x16 (nI x) (nI (cd_sp x)) kc ks fw fh st a1 a2 a3 a4 a5 a6 a7 a8 n 0 0 := by
  have hs := cd_sp_lt hx
  refine pk_loop (fun n t nd => wL_lawOf_164 post mc ms J134 R x3 x5 x6 (nI own) (nI N) x9 x10 x11 x12 (nI (cd_in q)) x14 x15 x16 (nI x) (nI (cd_sp x)) kc ks fw fh st a1 a2 a3 a4 a5 a6 a7 a8 n (nI nd) (nI t)) (fun t nd => nd < 4096 ∧ ∀ i, nd.testBit i = true ↔ ∃ t', t' < t ∧ (cd_sp x).testBit t' = true ∧ cd_Re (cd_b R) t' i) 12 0 0 (by omega) ⟨by omega, fun i => ⟨fun z => absurd z (by rw [Nat.zero_testBit]; decide), fun ⟨t', h1, _⟩ => absurd h1 (by omega)⟩⟩ ?_ ?_
  · rintro n nd ⟨h1, h2⟩
    have nc := cd_need hx h2
    refine pk_le 12 12 (fun _ => ?_) (fun z => absurd z (by omega))
    refine pk_eq nd (cd_sp x) (fun e => pk_le x 0 (fun z => ?_) (fun z => pk_le 255 x (fun z2 => ?_) (fun z2 => ?_))) (fun e => ?_)
    · rw [cd_in_f (fun w : (0 < x ∧ x < 255 ∧ cd_cl (cd_b R) (cd_mk x)) => absurd w.1 (by omega))] at H
      exact cd_l226 hs h1 ho nc H
    · rw [cd_in_f (fun w : (0 < x ∧ x < 255 ∧ cd_cl (cd_b R) (cd_mk x)) => absurd w.2.1 (by omega))] at H
      exact cd_l226 hs h1 ho nc H
    · rw [cd_in_t (⟨z, z2, nc.mp e⟩ : 0 < x ∧ x < 255 ∧ cd_cl (cd_b R) (cd_mk x))] at H
      exact nm_r (nI_1 N) (cd_l226 hs h1 ho nc H)
    · rw [cd_in_f (fun w : (0 < x ∧ x < 255 ∧ cd_cl (cd_b R) (cd_mk x)) => e (nc.mpr w.2.2))] at H
      exact cd_l226 hs h1 ho nc H
  · rintro n t nd ht ⟨h1, h2⟩ hw
    refine pk_le 12 t (fun z => absurd z (by omega)) (fun _ => ?_)
    rw [cd_bit _ t (by omega), cd_b_nI _ (by omega)]
    cases hb : (cd_sp x).testBit t
    · refine br_f (by decide) (nm_r (e' := nI nd) (by rw [show (0 : Int32) = nI 0 from rfl, cd_nor, Nat.or_zero]) (nm_r (nI_1 t) (hw nd ⟨h1, fun i => ?_⟩)))
      rw [h2]
      constructor
      · rintro ⟨t', y1, y2⟩
        exact ⟨t', by omega, y2⟩
      · rintro ⟨t', y1, y2, y3⟩
        rcases Nat.lt_or_ge t' t with w | w
        · exact ⟨t', w, y2, y3⟩
        · rw [show t' = t by omega, hb] at y2
          exact absurd y2 (by decide)
    · refine br_t (by decide) (cd_with ht (fun w hwl hwb => nm_r (cd_nor nd w) (nm_r (nI_1 t) (hw (nd ||| w) ⟨Nat.or_lt_two_pow (n := 12) h1 hwl, fun i => ?_⟩))))
      rw [Nat.testBit_or, Bool.or_eq_true, h2, hwb]
      constructor
      · rintro (⟨t', y1, y2⟩ | y)
        · exact ⟨t', by omega, y2⟩
        · exact ⟨t, by omega, hb, y⟩
      · rintro ⟨t', y1, y2, y3⟩
        rcases Nat.lt_or_ge t' t with w | w
        · exact Or.inl ⟨t', w, y2, y3⟩
        · rw [show t' = t by omega] at y3
          exact Or.inr y3
theorem cd_own {b : Nat → Bool} {own : Nat} (ho : own < 4096) (hth : ∀ i, own.testBit i = true → cd_th i) : (∀ x, x < 256 → ¬ (cd_sp x = own ∧ ¬ cd_cl b (cd_mk x))) ↔ cd_cl b (fun i => own.testBit i = true) := by
  obtain ⟨x0, hx0, m0⟩ := cd_mk_ex (fun t => own.testBit t = true) hth
  have e0 : cd_sp x0 = own := by
    apply Nat.eq_of_testBit_eq
    intro i
    rw [Bool.eq_iff_iff, cd_sp_mk hx0]
    exact m0 i
  have ec : cd_mk x0 = fun i => own.testBit i = true := funext (fun i => propext (m0 i))
  constructor
  · intro h
    rw [← ec]
    exact Classical.byContradiction (fun z => h x0 hx0 ⟨e0, z⟩)
  · rintro h x hx ⟨e, hn⟩
    apply hn
    have : x = x0 := cd_mk_inj hx hx0 (fun t => by rw [← cd_sp_mk hx, ← cd_sp_mk hx0, e, e0])
    rw [this, ec]
    exact h
theorem cd_l134 {own : Nat} (ho : own < 4096) (hth : ∀ i, own.testBit i = true → cd_th i)
    (H : ∃ n, wL_lawOf_252 post mc ms R x3 x5 x6 (nI (cd_lf (cd_b R))) x10 x11 x12 (nI (cd_in (cd_cl (cd_b R) (fun i => own.testBit i = true)))) x14 x15 x16 kc ks fw fh st a1 a2 a3 a4 a5 a6 a7 a8 n x9 0) :
    ∃ n, wL_lawOf_134 post mc ms R x3 x5 x6 (nI own) x9 x10 x11 x12 x14 x15 x16 kc ks fw fh st a1 a2 a3 a4 a5 a6 a7 a8 n 0 1 0 := by
  have key : ∃ n, wL_lawOf_134 post mc ms R x3 x5 x6 (nI own) x9 x10 x11 x12 x14 x15 x16 kc ks fw fh st a1 a2 a3 a4 a5 a6 a7 a8 n (nI (cd_cn (fun x => 0 < x ∧ x < 255 ∧ cd_cl (cd_b R) (cd_mk x)) 0)) (nI (cd_in (∀ x, x < 0 → ¬ (cd_sp x = own ∧ ¬ cd_cl (cd_b R) (cd_mk x))))) (nI 0) := by
    refine pk_loop (σ := Unit) (fun n X _ => wL_lawOf_134 post mc ms R x3 x5 x6 (nI own) x9 x10 x11 x12 x14 x15 x16 kc ks fw fh st a1 a2 a3 a4 a5 a6 a7 a8 n (nI (cd_cn (fun x => 0 < x ∧ x < 255 ∧ cd_cl (cd_b R) (cd_mk x)) X)) (nI (cd_in (∀ x, x < X → ¬ (cd_sp x = own ∧ ¬ cd_cl (cd_b R) (cd_mk x))))) (nI X)) (fun _ _ => True) 256 0 () (by omega) trivial ?_ ?_
    · intro n _ _
      rw [cd_in_c (cd_own (b := cd_b R) ho hth)]
      exact pk_le 256 256 (fun _ => H) (fun z => absurd z (by omega))
    · intro n x _ hx _ hw
      have W := hw () trivial
      rw [cd_in_c (show (∀ y, y < x + 1 → ¬ (cd_sp y = own ∧ ¬ cd_cl (cd_b R) (cd_mk y))) ↔ ((∀ y, y < x → ¬ (cd_sp y = own ∧ ¬ cd_cl (cd_b R) (cd_mk y))) ∧ ¬ (cd_sp x = own ∧ ¬ cd_cl (cd_b R) (cd_mk x))) from ⟨fun z => ⟨fun y hy => z y (by omega), z x (by omega)⟩, fun z y hy => by
        rcases Nat.lt_or_ge y x with w | w
        · exact z.1 y w
        · rw [show y = x by omega]
          exact z.2⟩)] at W
      exact pk_le 256 x (fun z => absurd z (by omega)) (fun _ => nm_r (cd_spv x hx) (cd_l164 hx ho W))
  rw [cd_in_t (show ∀ x, x < 0 → ¬ (cd_sp x = own ∧ ¬ cd_cl (cd_b R) (cd_mk x)) from fun x hx => absurd hx (by omega))] at key
  exact key
theorem cd_l307 {J252 J282 : Int32 → Int32 → Prop} {t u : Nat} (ht : t < 12) (hu : u < 12) (H : J282 (nI (cd_in (¬ (cd_Re (cd_b R) t u ∧ cd_Re (cd_b R) u t)))) (nI (u + 1))) :
    wL_lawOf_307 post mc ms J252 J282 R x3 x5 x6 x8 x9 x10 x11 x12 x13 x14 x15 x16 (nI t) (nI u) kc ks fw fh st a1 a2 a3 a4 a5 a6 a7 a8 := by
  unfold wL_lawOf_307
  refine cd_with ht (fun w hw hwb => cd_with hu (fun v hv hvb => ?_))
  rw [cd_two _ _ (by omega) (by omega), cd_b_nI _ (by omega), cd_b_nI _ (by omega)]
  have e : (w.testBit u && v.testBit t) = true ↔ (cd_Re (cd_b R) t u ∧ cd_Re (cd_b R) u t) := by
    rw [Bool.and_eq_true, hwb, hvb]
  cases hx : (w.testBit u && v.testBit t)
  · rw [cd_in_t (fun z => by rw [e.mpr z] at hx; exact absurd hx (by decide))] at H
    exact br_t rfl (nm_r (nI_1 u) H)
  · rw [cd_in_f (fun z => z (e.mp hx))] at H
    exact br_f (by decide) (nm_r (nI_1 u) H)
theorem cd_l282 {J252 : Int32 → Int32 → Prop} {t N : Nat} (ht : t < 12) (H : J252 (nI (N + cd_in (cd_fresh (cd_b R) t))) (nI (t + 1))) :
    ∃ n, wL_lawOf_282 post mc ms J252 R x3 x5 x6 x8 (nI N) x10 x11 x12 x13 x14 x15 x16 (nI t) kc ks fw fh st a1 a2 a3 a4 a5 a6 a7 a8 n (nI (cd_in (cd_th t))) 0 := by
  have key : ∃ n, wL_lawOf_282 post mc ms J252 R x3 x5 x6 x8 (nI N) x10 x11 x12 x13 x14 x15 x16 (nI t) kc ks fw fh st a1 a2 a3 a4 a5 a6 a7 a8 n (nI (cd_in (cd_th t ∧ ∀ u, u < 0 → cd_th u → ¬ (cd_Re (cd_b R) t u ∧ cd_Re (cd_b R) u t)))) (nI 0) := by
    refine pk_loop (σ := Unit) (fun n U _ => wL_lawOf_282 post mc ms J252 R x3 x5 x6 x8 (nI N) x10 x11 x12 x13 x14 x15 x16 (nI t) kc ks fw fh st a1 a2 a3 a4 a5 a6 a7 a8 n (nI (cd_in (cd_th t ∧ ∀ u, u < U → cd_th u → ¬ (cd_Re (cd_b R) t u ∧ cd_Re (cd_b R) u t)))) (nI U)) (fun _ _ => True) t 0 () (by omega) trivial ?_ ?_
    · intro n _ _
      refine pk_le t t (fun _ => ?_) (fun z => absurd z (by omega))
      by_cases hp : cd_fresh (cd_b R) t
      · rw [cd_in_t hp] at H
        rw [cd_in_t (show cd_th t ∧ ∀ u, u < t → cd_th u → ¬ (cd_Re (cd_b R) t u ∧ cd_Re (cd_b R) u t) from hp)]
        exact br_f (by decide) (nm_r (nI_1 N) (nm_r (nI_1 t) H))
      · rw [cd_in_f hp] at H
        rw [cd_in_f (show ¬ (cd_th t ∧ ∀ u, u < t → cd_th u → ¬ (cd_Re (cd_b R) t u ∧ cd_Re (cd_b R) u t)) from hp)]
        exact br_t rfl (nm_r (nI_add N 0) (nm_r (nI_1 t) H))
    · intro n u _ hu _ hw
      have W : wL_lawOf_282 post mc ms J252 R x3 x5 x6 x8 (nI N) x10 x11 x12 x13 x14 x15 x16 (nI t) kc ks fw fh st a1 a2 a3 a4 a5 a6 a7 a8 n (nI (cd_in ((cd_th t ∧ ∀ u', u' < u → cd_th u' → ¬ (cd_Re (cd_b R) t u' ∧ cd_Re (cd_b R) u' t)) ∧ (cd_th u → ¬ (cd_Re (cd_b R) t u ∧ cd_Re (cd_b R) u t))))) (nI (u + 1)) := by
        have w := hw () trivial
        rw [cd_in_c (show (cd_th t ∧ ∀ u', u' < u + 1 → cd_th u' → ¬ (cd_Re (cd_b R) t u' ∧ cd_Re (cd_b R) u' t)) ↔ ((cd_th t ∧ ∀ u', u' < u → cd_th u' → ¬ (cd_Re (cd_b R) t u' ∧ cd_Re (cd_b R) u' t)) ∧ (cd_th u → ¬ (cd_Re (cd_b R) t u ∧ cd_Re (cd_b R) u t))) from ⟨fun z => ⟨⟨z.1, fun u' h' => z.2 u' (by omega)⟩, z.2 u (by omega)⟩, fun z => ⟨z.1.1, fun u' h' => by
          rcases Nat.lt_or_ge u' u with y | y
          · exact z.1.2 u' y
          · rw [show u' = u by omega]
            exact z.2⟩⟩)] at w
        exact w
      refine pk_le t u (fun z => absurd z (by omega)) (fun _ => ?_)
      by_cases hp : cd_th t ∧ ∀ u', u' < u → cd_th u' → ¬ (cd_Re (cd_b R) t u' ∧ cd_Re (cd_b R) u' t)
      · rw [cd_in_t hp]
        have Wt : cd_th u → wL_lawOf_282 post mc ms J252 R x3 x5 x6 x8 (nI N) x10 x11 x12 x13 x14 x15 x16 (nI t) kc ks fw fh st a1 a2 a3 a4 a5 a6 a7 a8 n (nI (cd_in (¬ (cd_Re (cd_b R) t u ∧ cd_Re (cd_b R) u t)))) (nI (u + 1)) := by
          intro hth
          rw [← cd_in_c (show ((cd_th t ∧ ∀ u', u' < u → cd_th u' → ¬ (cd_Re (cd_b R) t u' ∧ cd_Re (cd_b R) u' t)) ∧ (cd_th u → ¬ (cd_Re (cd_b R) t u ∧ cd_Re (cd_b R) u t))) ↔ ¬ (cd_Re (cd_b R) t u ∧ cd_Re (cd_b R) u t) from ⟨fun z => z.2 hth, fun z => ⟨hp, fun _ => z⟩⟩)]
          exact W
        refine br_f (by decide) (pk_le u 3 (fun z => cd_l307 ht (by omega) (Wt (Or.inl (by omega)))) (fun z => pk_lt u 8 (fun z2 => nm_r (nI_1 u) ?_) (fun z2 => cd_l307 ht (by omega) (Wt (Or.inr (by omega))))))
        rw [cd_in_t ⟨hp, fun y => by rcases y with y | y <;> omega⟩] at W
        exact W
      · rw [cd_in_f hp]
        rw [cd_in_f (fun z => hp z.1)] at W
        exact br_t rfl (nm_r (nI_1 u) W)
  rw [cd_in_c (show (cd_th t ∧ ∀ u, u < 0 → cd_th u → ¬ (cd_Re (cd_b R) t u ∧ cd_Re (cd_b R) u t)) ↔ cd_th t from ⟨fun z => z.1, fun z => ⟨z, fun u hu => absurd hu (by omega)⟩⟩)] at key
  exact key
theorem cd_l252 (H : ∃ n, wL_lawOf_368 post mc ms R x3 x5 x6 x8 (nI (cd_cn (cd_fresh (cd_b R)) 12)) x13 x15 x16 kc ks fw fh st a1 a2 a3 a4 a5 a6 a7 a8 n x10 x11 x12 x14 0) :
    ∃ n, wL_lawOf_252 post mc ms R x3 x5 x6 x8 x10 x11 x12 x13 x14 x15 x16 kc ks fw fh st a1 a2 a3 a4 a5 a6 a7 a8 n 0 0 := by
  refine pk_loop (σ := Unit) (fun n t _ => wL_lawOf_252 post mc ms R x3 x5 x6 x8 x10 x11 x12 x13 x14 x15 x16 kc ks fw fh st a1 a2 a3 a4 a5 a6 a7 a8 n (nI (cd_cn (cd_fresh (cd_b R)) t)) (nI t)) (fun _ _ => True) 12 0 () (by omega) trivial (fun n _ _ => pk_le 12 12 (fun _ => H) (fun z => absurd z (by omega))) ?_
  intro n t _ ht _ hw
  have L := cd_l282 (post := post) (mc := mc) (ms := ms) (kc := kc) (ks := ks) (R := R) (x3 := x3) (x5 := x5) (x6 := x6) (x8 := x8) (x10 := x10) (x11 := x11) (x12 := x12) (x13 := x13) (x14 := x14) (x15 := x15) (x16 := x16) (fw := fw) (fh := fh) (st := st) (a1 := a1) (a2 := a2) (a3 := a3) (a4 := a4) (a5 := a5) (a6 := a6) (a7 := a7) (a8 := a8) ht (hw () trivial)
  refine pk_le 12 t (fun z => absurd z (by omega)) (fun _ => pk_lt t 4 (fun z => ?_) (fun z => pk_le t 7 (fun z2 => ?_) (fun z2 => ?_)))
  · rw [cd_in_t (show cd_th t from Or.inl z)] at L
    exact L
  · rw [cd_in_f (show ¬ cd_th t from fun y => by rcases y with y | y <;> omega)] at L
    exact L
  · rw [cd_in_t (show cd_th t from Or.inr (by omega))] at L
    exact L
end
end
section
/-! the law's last loop, its checks, its beginning -/
theorem cd_thx (p : Int32) : ∃ t, cd_th t ∧ (p &&& 3) ||| ((p &&& 4) <<< ((1 : Int32) &&& 31)) = nI t := by
  obtain ⟨j, hj, ej⟩ := pk_andE p (m := 7) 3 (by decide)
  have e3 : p &&& 3 = nI j &&& 3 := by
    rw [← ej]
    apply cd_ext
    intro i hi
    rw [cd_b_and, cd_b_and, cd_b_and]
    rw [← (by decide +kernel : ∀ i, i < 32 → (cd_b 7 i && cd_b 3 i) = cd_b 3 i) i hi]
    cases cd_b p i <;> cases cd_b 7 i <;> cases cd_b 3 i <;> rfl
  have e4 : p &&& 4 = nI j &&& 4 := by
    rw [← ej]
    apply cd_ext
    intro i hi
    rw [cd_b_and, cd_b_and, cd_b_and]
    rw [← (by decide +kernel : ∀ i, i < 32 → (cd_b 7 i && cd_b 4 i) = cd_b 4 i) i hi]
    cases cd_b p i <;> cases cd_b 7 i <;> cases cd_b 4 i <;> rfl
  rw [e3, e4]
  exact ⟨cd_tr j, cd_tr_th hj, (by decide +kernel : ∀ j, j < 8 → (nI j &&& 3) ||| ((nI j &&& 4) <<< ((1 : Int32) &&& 31)) = nI (cd_tr j)) j hj⟩
theorem cd_ownx (p : Int32) : ∃ own, own < 4096 ∧ p &&& 3855 = nI own ∧ ∀ i, own.testBit i = true → cd_th i := by
  have e : p = nI p.toBitVec.toNat := by
    apply Int32.toBitVec_inj.mp
    show p.toBitVec = BitVec.ofNat 32 p.toBitVec.toNat
    rw [BitVec.ofNat_toNat, BitVec.setWidth_eq]
  have le : p.toBitVec.toNat &&& 3855 ≤ 3855 := Nat.and_le_right
  refine ⟨p.toBitVec.toNat &&& 3855, by omega, ?_, fun i hi => ?_⟩
  · rw [← cd_nand, ← e]
    rfl
  · rcases Nat.lt_or_ge i 12 with h | h
    · rw [Nat.testBit_and, Bool.and_eq_true] at hi
      exact (by decide +kernel : ∀ i, i < 12 → Nat.testBit 3855 i = true → (i < 4 ∨ (8 ≤ i ∧ i < 12))) i h hi.2
    · rw [cd_big (by omega) h] at hi
      exact absurd hi (by decide)
section
variable {post : Int32 → St0 → Prop} {mc ms kc ks : Nat} {R x3 x8 st : Int32} {a1 a2 a3 a4 a5 a6 a7 a8 : Nat → Int32}
theorem cd_l579 {N : Nat} {z : Int32} (hK : cd_K (cd_b R) a1 a2 a3) (hN : N = cd_cn (cd_fresh (cd_b R)) 12) (hp : post 1 ()) : wL_lawOf_579 post mc ms (nI N) z z kc ks 4 4 st a1 a2 a3 a4 a5 a6 a7 a8 := by
  have le : N ≤ 12 := by
    rw [hN]
    exact cd_cn_le _ 12
  refine br_t rfl (cd_tog4 (br_t rfl (cd_tog12 (br_t rfl ?_))))
  refine pk_lt 1 N (fun _ => hp) (fun w => ?_)
  exact cd_divs hK (by omega) (fun _ _ _ _ _ _ => br_t rfl hp)
theorem cd_l503 {t u w v N own : Nat} {z : Int32} (hK : cd_K (cd_b R) a1 a2 a3) (ht : cd_th t) (hu : cd_th u) (hw : ∀ i, w.testBit i = true ↔ cd_Re (cd_b R) t i) (hv : ∀ i, v.testBit i = true ↔ cd_Re (cd_b R) u i) (hN : N = cd_cn (cd_fresh (cd_b R)) 12) (he : x3 &&& 3855 = nI own) (ho : ∀ i, own.testBit i = true → cd_th i) (hp : post 1 ()) :
    wL_lawOf_503 post mc ms x3 (nI t) (nI u) (nI N) (nI (cd_sum (fun i => (cd_h (cd_b R) t i).toNat) 4)) (nI (cd_bst (cd_h (cd_b R) t) 4)) (nI (cd_in (cd_cl (cd_b R) (fun i => own.testBit i = true)))) (nI w) (nI v) z z kc ks 4 4 st a1 a2 a3 a4 a5 a6 a7 a8 := by
  have t12 : t < 12 := by
    rcases ht with y | y <;> omega
  have u12 : u < 12 := by
    rcases hu with y | y <;> omega
  refine br_t rfl (cd_liftable hK he ho (fun st1 b4 b5 b6 b7 b8 => br_t rfl ?_))
  refine cd_over hK ht (fun st2 c4 c5 c6 c7 c8 => br_t rfl ?_)
  refine cd_long hK ht (fun st3 d4 d5 d6 d7 d8 => br_t rfl ?_)
  refine cd_tog hK ht hu (fun st4 e4 e5 e6 e7 e8 => ?_)
  rw [cd_bit _ u (by omega), cd_bit _ t (by omega), cd_b_nI _ (by omega), cd_b_nI _ (by omega)]
  have k1 := hw u
  have k2 := hv t
  cases h1 : w.testBit u
  · rw [h1] at k1
    rw [cd_in_f (fun y => absurd (k1.mpr y.1) (by decide))]
    exact br_f (by decide) (cd_l579 hK hN hp)
  · rw [h1] at k1
    cases h2 : v.testBit t
    · rw [h2] at k2
      rw [cd_in_f (fun y => absurd (k2.mpr y.2) (by decide))]
      exact br_t (by decide) (br_f (by decide) (cd_l579 hK hN hp))
    · rw [h2] at k2
      rw [cd_in_t ⟨k1.mp rfl, k2.mp rfl⟩]
      exact br_t (by decide) (br_t (by decide) (cd_l579 hK hN hp))
theorem cd_l368 {t u w v own : Nat} (hK : cd_K (cd_b R) a1 a2 a3) (ht : cd_th t) (hu : cd_th u) (hw : ∀ i, w.testBit i = true ↔ cd_Re (cd_b R) t i) (hv : ∀ i, v.testBit i = true ↔ cd_Re (cd_b R) u i) (he : x3 &&& 3855 = nI own) (ho : ∀ i, own.testBit i = true → cd_th i) (hp : post 1 ()) :
    ∃ n, wL_lawOf_368 post mc ms R x3 (nI t) (nI u) (nI (cd_lf (cd_b R))) (nI (cd_cn (cd_fresh (cd_b R)) 12)) (nI (cd_in (cd_cl (cd_b R) (fun i => own.testBit i = true)))) (nI w) (nI v) kc ks 4 4 st a1 a2 a3 a4 a5 a6 a7 a8 n 0 0 0 0 0 := by
  have t12 : t < 12 := by
    rcases ht with y | y <;> omega
  have beq : ∀ x y : Bool, nI x.toNat = nI y.toNat ↔ x = y := by decide
  refine pk_loop (fun n x (la : Int32) => wL_lawOf_368 post mc ms R x3 (nI t) (nI u) (nI (cd_lf (cd_b R))) (nI (cd_cn (cd_fresh (cd_b R)) 12)) (nI (cd_in (cd_cl (cd_b R) (fun i => own.testBit i = true)))) (nI w) (nI v) kc ks 4 4 st a1 a2 a3 a4 a5 a6 a7 a8 n (nI (cd_sum (fun i => (cd_h (cd_b R) t i).toNat) x)) (nI (cd_run (cd_h (cd_b R) t) x)) (nI (cd_bst (cd_h (cd_b R) t) x)) la (nI x)) (fun x la => 0 < x → la = nI (cd_h (cd_b R) t (x - 1)).toNat) 4 0 0 (by omega) (fun z => absurd z (by omega)) ?_ ?_
  · intro n la _
    refine pk_le 4 4 (fun _ => ?_) (fun z => absurd z (by omega))
    refine cd_lifts hK (fun st1 b4 b5 b6 b7 b8 => br_t rfl ?_)
    refine cd_layers hK (fun st2 c4 c5 c6 c7 c8 => br_t rfl ?_)
    refine cd_hangs hK (fun st3 d4 d5 d6 d7 d8 => ?_)
    have le := cd_cn_le (cd_fresh (cd_b R)) 12
    refine pk_eq (cd_cn (cd_fresh (cd_b R)) 12) 1 (fun z => ?_) (fun z => ?_)
    · rw [if_pos z]
      exact cd_l503 hK ht hu hw hv rfl he ho hp
    · rw [if_neg z]
      exact cd_l503 hK ht hu hw hv rfl he ho hp
  · intro n x la hx hla hw'
    have W := hw' (nI (cd_h (cd_b R) t x).toNat) (fun _ => by rw [show x + 1 - 1 = x by omega])
    have r1 := cd_run_le (cd_h (cd_b R) t) (x + 1)
    have b1 := cd_bst_le (cd_h (cd_b R) t) x
    have fin : wL_lawOf_439 post mc ms (wL_lawOf_368 post mc ms R x3 (nI t) (nI u) (nI (cd_lf (cd_b R))) (nI (cd_cn (cd_fresh (cd_b R)) 12)) (nI (cd_in (cd_cl (cd_b R) (fun i => own.testBit i = true)))) (nI w) (nI v) kc ks 4 4 st a1 a2 a3 a4 a5 a6 a7 a8 n) R x3 (nI t) (nI u) (nI (cd_lf (cd_b R))) (nI (cd_cn (cd_fresh (cd_b R)) 12)) (nI (cd_sum (fun i => (cd_h (cd_b R) t i).toNat) (x + 1))) (nI (cd_bst (cd_h (cd_b R) t) x)) (nI (cd_in (cd_cl (cd_b R) (fun i => own.testBit i = true)))) (nI w) (nI v) (nI x) (nI (cd_h (cd_b R) t x).toNat) (nI (cd_run (cd_h (cd_b R) t) (x + 1))) kc ks 4 4 st a1 a2 a3 a4 a5 a6 a7 a8 := by
      have eb : cd_bst (cd_h (cd_b R) t) (x + 1) = if cd_run (cd_h (cd_b R) t) (x + 1) ≤ cd_bst (cd_h (cd_b R) t) x then cd_bst (cd_h (cd_b R) t) x else cd_run (cd_h (cd_b R) t) (x + 1) := rfl
      refine pk_le (cd_run (cd_h (cd_b R) t) (x + 1)) (cd_bst (cd_h (cd_b R) t) x) (fun z => nm_r (nI_1 x) ?_) (fun z => nm_r (nI_1 x) ?_)
      · rw [eb, if_pos z] at W
        exact W
      · rw [eb, if_neg (by omega)] at W
        exact W
    have er : cd_run (cd_h (cd_b R) t) (x + 1) = if x = 0 ∨ cd_h (cd_b R) t x = cd_h (cd_b R) t (x - 1) then cd_run (cd_h (cd_b R) t) x + 1 else 1 := rfl
    have mid : ∀ hv' : Int32, hv' = nI (cd_h (cd_b R) t x).toNat → wL_lawOf_410 post mc ms (wL_lawOf_368 post mc ms R x3 (nI t) (nI u) (nI (cd_lf (cd_b R))) (nI (cd_cn (cd_fresh (cd_b R)) 12)) (nI (cd_in (cd_cl (cd_b R) (fun i => own.testBit i = true)))) (nI w) (nI v) kc ks 4 4 st a1 a2 a3 a4 a5 a6 a7 a8 n) R x3 (nI t) (nI u) (nI (cd_lf (cd_b R))) (nI (cd_cn (cd_fresh (cd_b R)) 12)) (nI (cd_sum (fun i => (cd_h (cd_b R) t i).toNat) x)) (nI (cd_run (cd_h (cd_b R) t) x)) (nI (cd_bst (cd_h (cd_b R) t) x)) (nI (cd_in (cd_cl (cd_b R) (fun i => own.testBit i = true)))) la (nI w) (nI v) (nI x) hv' kc ks 4 4 st a1 a2 a3 a4 a5 a6 a7 a8 := by
      intro hv' ev
      rw [ev]
      refine nm_r (nI_add _ _) ?_
      refine pk_le x 0 (fun z => ?_) (fun z => ?_)
      · have e1 : cd_run (cd_h (cd_b R) t) (x + 1) = 1 := by
          rw [show x = 0 by omega]
          rfl
        rw [e1] at fin
        exact fin
      · rw [hla z]
        refine ek_if (beq _ _) (fun e => ?_) (fun e => ?_)
        · rw [er, if_pos (Or.inr e)] at fin
          rw [nI_1]
          exact fin
        · rw [er, if_neg (by
            rintro (y | y)
            · omega
            · exact e y)] at fin
          exact fin
    refine pk_le 4 x (fun z => absurd z (by omega)) (fun _ => pk_le 4 t (fun z => mid _ ?_) (fun z => mid _ ?_))
    · have t8 : 8 ≤ t := by
        rcases ht with y | y <;> omega
      rw [show nI t - 8 = nI (t - 8) from pk_sub t8, show (4 : Int32) * nI (t - 8) = nI (4 * (t - 8)) from pk_mul 4 (t - 8), nI_add, cd_bit _ _ (by omega)]
      unfold cd_h
      rw [if_neg (by omega)]
      cases cd_b R (4 * (t - 8) + x) <;> decide
    · rw [show (4 : Int32) * nI x = nI (4 * x) from pk_mul 4 x, nI_add, cd_bit _ _ (by omega)]
      unfold cd_h
      rw [if_pos z]
theorem cd_lawOf {post : Int32 → St0 → Prop} {p0 p1 p2 p3 : Int32} (hp : post 1 ()) : wpL_lawOf post 44 704 () p0 p1 p2 p3 := by
  obtain ⟨t, ht, et⟩ := cd_thx p1
  obtain ⟨u, hu, eu⟩ := cd_thx p2
  obtain ⟨own, hown, eo, ho⟩ := cd_ownx p3
  have t12 : t < 12 := by
    rcases ht with y | y <;> omega
  have u12 : u < 12 := by
    rcases hu with y | y <;> omega
  unfold wpL_lawOf
  refine ⟨by omega, by omega, 8, 102, by omega, by omega, cd_init (by omega) (by omega) ?_⟩
  refine nm_r et (nm_r eu (nm_r eo ?_))
  refine cd_with t12 (fun w hw hwb => cd_with u12 (fun v hv hvb => ?_))
  refine cd_thr (fun a1 h1 => br_t rfl (cd_trd (fun a2 h2 => br_t rfl ?_)))
  refine pk_loop (fun n k s => wL_lawOf_102 post 44 704 p0 p3 (nI t) (nI u) (nI own) 0 0 0 0 0 1 0 (nI w) (nI v) (1 + 8) (11 + 102) n (nI k) 4 4 0 a1 a2 s (fun _ => 0) (fun _ => 0) (fun _ => 0) (fun _ => 0) (fun _ => 0)) (fun k s => ∀ r, r < k → ∃ j, j < 16 ∧ s r = nI j ∧ ∀ c, c < 4 → j.testBit c = cd_b p0 (4 * r + c)) 4 0 (fun _ => 0) (by omega) (fun r hr => absurd hr (by omega)) ?_ ?_
  · intro n s h3
    have hK : cd_K (cd_b p0) a1 a2 s := ⟨h1, h2, h3⟩
    exact pk_le 4 4 (fun _ => cd_l134 hown ho (cd_l252 (cd_l368 hK ht hu hwb hvb eo ho hp))) (fun z => absurd z (by omega))
  · intro n k s hk h3 hw'
    refine pk_le 4 k (fun z => absurd z (by omega)) (fun _ => cd_tie hk (fun r j hj hb => nm_r (nI_1 k) (hw' _ (fun r' hr' => ?_))))
    rcases Nat.lt_or_ge r' k with y | y
    · rw [pk_un (by omega)]
      exact h3 r' y
    · rw [show r' = k by omega, pk_us]
      exact ⟨j, hj, rfl, hb⟩
end
theorem cd_cell {post : Int32 → Prop} {L : Nat} {xs : Nat → Int32} (hL : L ≤ 4) {k : Nat} (hk : k < 4) (H : ∀ r, post r) : wpL_cellAt post L xs () (nI k) :=
  pk_le L k (fun _ => H 0) (fun z => ⟨pk_in k L z, H _⟩)
theorem i_vc (xs : Nat → Int32) (L : Nat) (hL : L ≤ 4) : wpL_law (fun r => r = 1) L xs := by
  unfold wpL_law
  refine cd_cell (k := 0) hL (by omega) (fun r1 => cd_cell (k := 1) hL (by omega) (fun r2 => cd_cell (k := 2) hL (by omega) (fun r3 => cd_cell (k := 3) hL (by omega) (fun r4 => ?_))))
  exact ⟨44, 704, by omega, by omega, cd_lawOf rfl⟩
end
