section
/-! the family bt, b_* is a starting text (kit/laws/BITS.to-paste) -/
def bt (x : Int32) (i : Nat) : Bool := x.toBitVec.getLsbD i
theorem b_ext {x y : Int32} (h : ∀ i, i < 32 → bt x i = bt y i) : x = y := Int32.toBitVec_inj.mp (BitVec.eq_of_getLsbD_eq (fun i hi => h i hi))
theorem b_or (x y : Int32) (i : Nat) : bt (x ||| y) i = (bt x i || bt y i) := by unfold bt; rw [Int32.toBitVec_or, BitVec.getLsbD_or]
theorem b_and (x y : Int32) (i : Nat) : bt (x &&& y) i = (bt x i && bt y i) := by unfold bt; rw [Int32.toBitVec_and, BitVec.getLsbD_and]
theorem b_xor (x y : Int32) (i : Nat) : bt (x ^^^ y) i = (bt x i ^^ bt y i) := by unfold bt; rw [Int32.toBitVec_xor, BitVec.getLsbD_xor]
theorem b_big {x : Int32} {i : Nat} (h : 32 ≤ i) : bt x i = false := BitVec.getLsbD_of_ge _ _ h
theorem b_255 (i : Nat) : bt 255 i = decide (i < 8) := by
  rcases Nat.lt_or_ge i 32 with h | h
  · exact (by decide +kernel : ∀ i, i < 32 → bt 255 i = decide (i < 8)) i h
  · rw [b_big h, decide_eq_false (by omega)]
theorem b_m1 : ∀ i, i < 32 → bt (-1) i = true := by decide +kernel
theorem b_0 (i : Nat) : bt 0 i = false := BitVec.getLsbD_zero
theorem s_l : ∀ n, n < 32 → ((nI n &&& 31).toBitVec.smod 32).toNat = n := by decide +kernel
theorem b_sshr (n : Nat) (hn : n < 32) (x : Int32) {i : Nat} (hi : i < 32) : bt (x >>> (nI n &&& 31)) i = if n + i < 32 then bt x (n + i) else bt x 31 := by
  unfold bt
  rw [Int32.toBitVec_shiftRight]
  show (x.toBitVec.sshiftRight ((nI n &&& 31).toBitVec.smod 32).toNat).getLsbD i = _
  rw [s_l n hn, BitVec.getLsbD_sshiftRight, BitVec.msb_eq_getLsbD_last]
  simp [hi]
theorem nf_sh : ∀ l, l < 32 → ((1 : Int32) <<< (nI l &&& 31)).toBitVec = BitVec.twoPow 32 l := by decide +kernel
/-! own rows -/
theorem gc_b1 : ∀ i, i < 32 → i ≠ 0 → bt 1 i = false := by decide +kernel
theorem gc_tst (m : Int32) {v : Nat} (hv : v < 32) : ((m >>> (nI v &&& 31)) &&& 1) = 0 ↔ bt m v = false := by
  have h1 : bt 1 0 = true := by decide
  constructor
  · intro h
    have h2 : bt ((m >>> (nI v &&& 31)) &&& 1) 0 = false := by rw [h]; exact b_0 0
    rw [b_and, b_sshr v hv m (by omega), h1, Bool.and_true, if_pos (by omega), Nat.add_zero] at h2
    exact h2
  · intro h
    apply b_ext
    intro i hi
    rw [b_and, b_0]
    by_cases e : i = 0
    · subst e
      rw [b_sshr v hv m (by omega), if_pos (by omega), Nat.add_zero, h]
      rfl
    · rw [gc_b1 i hi e, Bool.and_false]
theorem gc_tstB {m : Int32} {v : Nat} {P Q : Prop} (hv : v < 32) (f : bt m v = false → P) (g : bt m v = true → Q) : (((m >>> (nI v &&& 31)) &&& 1) = 0 → P) ∧ (¬ ((m >>> (nI v &&& 31)) &&& 1) = 0 → Q) := by
  rw [gc_tst m hv]
  refine ⟨f, fun h => g ?_⟩
  cases e : bt m v
  · exact absurd e h
  · rfl
theorem gc_one {a : Nat} (ha : a < 32) (v : Nat) : bt ((1 : Int32) <<< (nI a &&& 31)) v = true ↔ v = a := by
  unfold bt
  rw [nf_sh a ha, BitVec.getLsbD_twoPow]
  simp [ha]
  exact eq_comm
theorem gc_not (m : Int32) {v : Nat} (hv : v < 32) : bt (m ^^^ (-1)) v = true ↔ ¬ bt m v = true := by
  rw [b_xor, b_m1 v hv]
  cases bt m v <;> simp
theorem gc_or (x y : Int32) (v : Nat) : bt (x ||| y) v = true ↔ (bt x v = true ∨ bt y v = true) := by
  rw [b_or, Bool.or_eq_true]
theorem gc_and (x y : Int32) (v : Nat) : bt (x &&& y) v = true ↔ (bt x v = true ∧ bt y v = true) := by
  rw [b_and, Bool.and_eq_true]
theorem gc_lt {x : Int32} {v : Nat} (h : bt x v = true) : v < 32 := by
  rcases Nat.lt_or_ge v 32 with z | z
  · exact z
  · rw [b_big z] at h
    cases h
theorem gc_tf {b : Bool} (h : ¬ b = true) : b = false := by cases b <;> simp_all
/-! how many of the eight -/
def gc_pc (m : Int32) : Nat := (bt m 0).toNat + (bt m 1).toNat + (bt m 2).toNat + (bt m 3).toNat + (bt m 4).toNat + (bt m 5).toNat + (bt m 6).toNat + (bt m 7).toNat
theorem gc_tn {b c : Bool} (h : b = true → c = true) : b.toNat ≤ c.toNat := by cases b <;> cases c <;> simp_all
theorem gc_t1 (b : Bool) : b.toNat ≤ 1 := by cases b <;> decide
theorem gc_pc_le (m : Int32) : gc_pc m ≤ 8 := by
  unfold gc_pc
  have k0 := gc_t1 (bt m 0)
  have k1 := gc_t1 (bt m 1)
  have k2 := gc_t1 (bt m 2)
  have k3 := gc_t1 (bt m 3)
  have k4 := gc_t1 (bt m 4)
  have k5 := gc_t1 (bt m 5)
  have k6 := gc_t1 (bt m 6)
  have k7 := gc_t1 (bt m 7)
  omega
theorem gc_8 {v : Nat} (h : v < 8) : v = 0 ∨ v = 1 ∨ v = 2 ∨ v = 3 ∨ v = 4 ∨ v = 5 ∨ v = 6 ∨ v = 7 := by omega
theorem gc_pc_mono {m m' : Int32} (h : ∀ v, bt m v = true → bt m' v = true) : gc_pc m ≤ gc_pc m' := by
  unfold gc_pc
  have k0 := gc_tn (h 0)
  have k1 := gc_tn (h 1)
  have k2 := gc_tn (h 2)
  have k3 := gc_tn (h 3)
  have k4 := gc_tn (h 4)
  have k5 := gc_tn (h 5)
  have k6 := gc_tn (h 6)
  have k7 := gc_tn (h 7)
  omega
theorem gc_pc_lt {m m' : Int32} (h : ∀ v, bt m v = true → bt m' v = true) {v : Nat} (hv : v < 8) (h1 : bt m v = false) (h2 : bt m' v = true) : gc_pc m < gc_pc m' := by
  have e1 : (bt m v).toNat = 0 := by rw [h1]; rfl
  have e2 : (bt m' v).toNat = 1 := by rw [h2]; rfl
  have k0 := gc_tn (h 0)
  have k1 := gc_tn (h 1)
  have k2 := gc_tn (h 2)
  have k3 := gc_tn (h 3)
  have k4 := gc_tn (h 4)
  have k5 := gc_tn (h 5)
  have k6 := gc_tn (h 6)
  have k7 := gc_tn (h 7)
  unfold gc_pc
  rcases gc_8 hv with rfl | rfl | rfl | rfl | rfl | rfl | rfl | rfl <;> omega
theorem gc_pc_pos {m : Int32} (h : 0 < gc_pc m) : ∃ v, v < 8 ∧ bt m v = true := by
  apply Classical.byContradiction
  intro hn
  have k : ∀ v, v < 8 → (bt m v).toNat = 0 := by
    intro v hv
    cases e : bt m v
    · rfl
    · exact absurd ⟨v, hv, e⟩ hn
  have k0 := k 0 (by omega)
  have k1 := k 1 (by omega)
  have k2 := k 2 (by omega)
  have k3 := k 3 (by omega)
  have k4 := k 4 (by omega)
  have k5 := k 5 (by omega)
  have k6 := k 6 (by omega)
  have k7 := k 7 (by omega)
  unfold gc_pc at h
  omega
theorem gc_pc_zero {m : Int32} (h : gc_pc m = 0) {v : Nat} (hv : v < 8) : bt m v = false := by
  cases e : bt m v
  · rfl
  · have e2 : (bt m v).toNat = 1 := by rw [e]; rfl
    unfold gc_pc at h
    rcases gc_8 hv with rfl | rfl | rfl | rfl | rfl | rfl | rfl | rfl <;> omega
theorem gc_pc_drop {m m' : Int32} {v : Nat} (hv : v < 8) (h1 : bt m v = true) (h : ∀ j, j < 8 → (bt m' j = true ↔ bt m j = true ∧ j ≠ v)) : gc_pc m' + 1 = gc_pc m := by
  have e1 : (bt m v).toNat = 1 := by rw [h1]; rfl
  have e2 : (bt m' v).toNat = 0 := by
    cases e : bt m' v
    · rfl
    · exact absurd rfl ((h v hv).mp e).2
  have k : ∀ j, j < 8 → j ≠ v → (bt m' j).toNat = (bt m j).toNat := by
    intro j hj hn
    have q := h j hj
    cases e : bt m j <;> cases e' : bt m' j <;> simp_all
  have k0 := k 0 (by omega)
  have k1 := k 1 (by omega)
  have k2 := k 2 (by omega)
  have k3 := k 3 (by omega)
  have k4 := k 4 (by omega)
  have k5 := k 5 (by omega)
  have k6 := k 6 (by omega)
  have k7 := k 7 (by omega)
  unfold gc_pc
  rcases gc_8 hv with rfl | rfl | rfl | rfl | rfl | rfl | rfl | rfl <;> omega
/-! the bits of a row of sets -/
def gc_ct (a : Nat → Int32) : Nat → Nat
  | 0 => 0
  | n + 1 => gc_ct a n + gc_pc (a n)
theorem gc_ct_le (a : Nat → Int32) : ∀ n, gc_ct a n ≤ 8 * n := by
  intro n
  induction n with
  | zero => exact Nat.le_refl 0
  | succ n ih =>
    have := gc_pc_le (a n)
    show gc_ct a n + gc_pc (a n) ≤ 8 * (n + 1)
    omega
theorem gc_ct_mono {a b : Nat → Int32} : ∀ n, (∀ i, i < n → gc_pc (a i) ≤ gc_pc (b i)) → gc_ct a n ≤ gc_ct b n := by
  intro n
  induction n with
  | zero => intro _; exact Nat.le_refl 0
  | succ n ih =>
    intro h
    have h1 := ih (fun i hi => h i (by omega))
    have h2 := h n (by omega)
    show gc_ct a n + gc_pc (a n) ≤ gc_ct b n + gc_pc (b n)
    omega
theorem gc_ct_lt {a b : Nat → Int32} : ∀ n, (∀ i, i < n → gc_pc (a i) ≤ gc_pc (b i)) → (∃ i, i < n ∧ gc_pc (a i) < gc_pc (b i)) → gc_ct a n < gc_ct b n := by
  intro n
  induction n with
  | zero => intro _ h; obtain ⟨i, hi, _⟩ := h; omega
  | succ n ih =>
    intro h hx
    obtain ⟨i, hi, hl⟩ := hx
    have h2 := h n (by omega)
    show gc_ct a n + gc_pc (a n) < gc_ct b n + gc_pc (b n)
    by_cases e : i = n
    · subst e
      have h1 := gc_ct_mono i (fun j hj => h j (by omega))
      omega
    · have h1 := ih (fun j hj => h j (by omega)) ⟨i, by omega, hl⟩
      omega
theorem gc_m1 (x : Int32) : x - 1 = x + (-1) := Int32.sub_eq_add_neg x 1
theorem gc_n1 : nI 0 + (-1) < 0 := by decide
theorem gc_cl {i : Nat} (h : i < 1000) : (nI i).toNatClampNeg = i := nI_clamp (by omega)
theorem gc_b8 : ∀ n, n < 128 → (nI n).toInt8.toInt32 = nI n := by decide +kernel
theorem gc_s16 : ∀ n, n < 256 → (nI n).toInt16.toInt32 = nI n := by decide +kernel
theorem gc_upd_self (f : Nat → Int32) (k : Nat) : upd f k (f k) = f := by
  funext j
  by_cases e : j = k
  · subst e; exact pk_us
  · exact pk_un e
end
section
/-! liveness: the pure picture -/
def gc_la (l : Nat) (a6 : Nat → Int32) (j v : Nat) : Prop := j < l ∧ bt (a6 j) v = true
def gc_aft (l : Nat) (o a b c : Nat) (a6 : Nat → Int32) (i v : Nat) : Prop :=
  (o = 7 ∧ gc_la l a6 a v) ∨ (o ≠ 7 ∧ o ≠ 10 ∧ (gc_la l a6 (i + 1) v ∨ (o = 8 ∧ gc_la l a6 b v) ∨ (o = 9 ∧ ∃ k, k < c ∧ gc_la l a6 (b + k) v)))
def gc_rd (o a b c v : Nat) : Prop := (o = 1 ∧ v = b) ∨ (2 ≤ o ∧ o ≤ 5 ∧ (v = b ∨ v = c)) ∨ ((o = 6 ∨ o = 8 ∨ o = 9) ∧ v = a)
def gc_wr (o a v : Nat) : Prop := o ≤ 5 ∧ v = a
def gc_F (l o a b c : Nat) (a6 : Nat → Int32) (i v : Nat) : Prop := gc_rd o a b c v ∨ (gc_aft l o a b c a6 i v ∧ ¬ gc_wr o a v)
/-- one instruction is well formed -/
def gc_ok (o a b c : Nat) (xo xa xb xc : Int32) : Prop :=
  xo = nI o ∧ o ≤ 10 ∧ (o ≠ 10 → xa = nI a) ∧ (o = 7 → a ≤ 31) ∧ (o ≠ 7 → o ≠ 10 → a ≤ 7) ∧ (1 ≤ o → o ≤ 5 → xb = nI b ∧ b ≤ 7) ∧ (2 ≤ o → o ≤ 5 → xc = nI c ∧ c ≤ 7) ∧ (8 ≤ o → o ≤ 9 → xb = nI b ∧ b ≤ 31) ∧ (o = 9 → xc = nI c ∧ c ≤ 4)
def gc_src (l : Nat) (O A B C : Nat → Nat) (a1 a2 a3 a4 : Nat → Int32) : Prop :=
  l ≤ 32 ∧ ∀ i, i < l → gc_ok (O i) (A i) (B i) (C i) (a1 i) (a2 i) (a3 i) (a4 i)
theorem gc_la_mono {l : Nat} {f g : Nat → Int32} (hl : l ≤ 32) (h : ∀ i v, i < 32 → bt (f i) v = true → bt (g i) v = true) {j v : Nat} (k : gc_la l f j v) : gc_la l g j v :=
  ⟨k.1, h j v (Nat.lt_of_lt_of_le k.1 hl) k.2⟩
theorem gc_aft_mono {l o a b c : Nat} {f g : Nat → Int32} (hl : l ≤ 32) (h : ∀ i v, i < 32 → bt (f i) v = true → bt (g i) v = true) {i v : Nat} (k : gc_aft l o a b c f i v) : gc_aft l o a b c g i v := by
  rcases k with ⟨k1, k2⟩ | ⟨k1, k2, k3⟩
  · exact Or.inl ⟨k1, gc_la_mono hl h k2⟩
  · refine Or.inr ⟨k1, k2, ?_⟩
    rcases k3 with k3 | ⟨k4, k3⟩ | ⟨k4, j, hj, k3⟩
    · exact Or.inl (gc_la_mono hl h k3)
    · exact Or.inr (Or.inl ⟨k4, gc_la_mono hl h k3⟩)
    · exact Or.inr (Or.inr ⟨k4, j, hj, gc_la_mono hl h k3⟩)
theorem gc_F_mono {l o a b c : Nat} {f g : Nat → Int32} (hl : l ≤ 32) (h : ∀ i v, i < 32 → bt (f i) v = true → bt (g i) v = true) {i v : Nat} (k : gc_F l o a b c f i v) : gc_F l o a b c g i v := by
  rcases k with k | ⟨k, k2⟩
  · exact Or.inl k
  · exact Or.inr ⟨gc_aft_mono hl h k, k2⟩
theorem gc_la_8 {l : Nat} {f : Nat → Int32} (hl : l ≤ 32) (h : ∀ i, i < 32 → ∀ v, bt (f i) v = true → v < 8) {j v : Nat} (k : gc_la l f j v) : v < 8 := h j (Nat.lt_of_lt_of_le k.1 hl) v k.2
theorem gc_aft_8 {l o a b c : Nat} {f : Nat → Int32} (hl : l ≤ 32) (h : ∀ i, i < 32 → ∀ v, bt (f i) v = true → v < 8) {i v : Nat} (k : gc_aft l o a b c f i v) : v < 8 := by
  rcases k with ⟨k1, k2⟩ | ⟨k1, k2, k3⟩
  · exact gc_la_8 hl h k2
  · rcases k3 with k3 | ⟨k4, k3⟩ | ⟨k4, j, hj, k3⟩
    · exact gc_la_8 hl h k3
    · exact gc_la_8 hl h k3
    · exact gc_la_8 hl h k3
theorem gc_rd_8 {o a b c v : Nat} {xo xa xb xc : Int32} (h : gc_ok o a b c xo xa xb xc) (k : gc_rd o a b c v) : v < 8 := by
  obtain ⟨h1, h2, h3, h4, h5, h6, h7, h8, h9⟩ := h
  rcases k with ⟨k, e⟩ | ⟨k, k2, e | e⟩ | ⟨k, e⟩
  · have := (h6 (by omega) (by omega)).2
    omega
  · have := (h6 (by omega) (by omega)).2
    omega
  · have := (h7 (by omega) (by omega)).2
    omega
  · have := h5 (by omega) (by omega)
    omega
theorem gc_F_8 {l o a b c : Nat} {f : Nat → Int32} {xo xa xb xc : Int32} (hk : gc_ok o a b c xo xa xb xc) (hl : l ≤ 32) (h : ∀ i, i < 32 → ∀ v, bt (f i) v = true → v < 8) {i v : Nat} (k : gc_F l o a b c f i v) : v < 8 := by
  rcases k with k | ⟨k, _⟩
  · exact gc_rd_8 hk k
  · exact gc_aft_8 hl h k
/-! the walks: liveAt, liveAfter, readBy, writtenBy -/
theorem gc_liveAt {post : Int32 → Prop} {cm ce pl fl oc ec pc : Int32} {a1 a2 a3 a4 a5 a6 a7 a8 a9 a10 a11 a12 a13 a14 a15 a16 a17 : Nat → Int32} {l j : Nat} (hl : l ≤ 32) (hj : j < 1000) (H : ∀ r, (∀ v, bt r v = true ↔ gc_la l a6 j v) → post r) : wpX_liveAt post (nI l, cm, ce, pl, fl, oc, ec, pc, a1, a2, a3, a4, a5, a6, a7, a8, a9, a10, a11, a12, a13, a14, a15, a16, a17) (nI j) := by
  refine pk_le l j (fun h => H 0 ?_) (fun h => ⟨pk_in j 32 (by omega), ?_⟩)
  · intro v
    rw [b_0]
    exact ⟨fun z => absurd z (by decide), fun z => absurd z.1 (by omega)⟩
  · rw [gc_cl hj]
    exact H _ (fun v => ⟨fun z => ⟨h, z⟩, fun z => z.2⟩)
theorem gc_la68 {post : Int32 → Prop} {cm ce pl fl oc ec pc : Int32} {a1 a2 a3 a4 a5 a6 a7 a8 a9 a10 a11 a12 a13 a14 a15 a16 a17 : Nat → Int32} {l i b c : Nat} {x3 : Int32} {P : Nat → Prop} (hl : l ≤ 32) (hi : i < 32) (hb : a3 i = nI b) (hb2 : b ≤ 31) (hc : a4 i = nI c) (hc2 : c ≤ 4)
    (h3 : ∀ v, bt x3 v = true ↔ P v) (H : ∀ r, (∀ v, bt r v = true ↔ (P v ∨ ∃ k, k < c ∧ gc_la l a6 (b + k) v)) → post r) :
    ∃ n, wX_liveAfter_68 post (nI i) (nI l) cm ce pl fl oc ec pc a1 a2 a3 a4 a5 a6 a7 a8 a9 a10 a11 a12 a13 a14 a15 a16 a17 n x3 0 := by
  have ci : (nI i).toNatClampNeg = i := gc_cl (by omega)
  refine pk_loop (fun n k s => wX_liveAfter_68 post (nI i) (nI l) cm ce pl fl oc ec pc a1 a2 a3 a4 a5 a6 a7 a8 a9 a10 a11 a12 a13 a14 a15 a16 a17 n s (nI k)) (fun k s => ∀ v, bt s v = true ↔ (P v ∨ ∃ k', k' < k ∧ gc_la l a6 (b + k') v)) c 0 x3 (by omega) ?_ ?_ ?_
  · intro v
    rw [h3]
    exact ⟨Or.inl, fun z => z.elim id (fun ⟨k, hk, _⟩ => absurd hk (by omega))⟩
  · intro n s h
    exact ⟨pk_in i 32 hi, pk_le c c (fun _ => H s h) (fun z => absurd z (by omega)) (by rw [ci]; exact hc)⟩
  · intro n k s hk h hw
    refine ⟨pk_in i 32 hi, pk_le c k (fun z => absurd z (by omega)) (fun _ => ⟨pk_in i 32 hi, ?_⟩) (by rw [ci]; exact hc)⟩
    rw [ci, hb, nI_add]
    refine gc_liveAt hl (by omega) (fun r hr => nm_e (nm_r (nI_1 k) (hw _ ?_)))
    intro v
    rw [gc_or, h, hr]
    constructor
    · rintro ((p | ⟨k', h1, h2⟩) | q)
      · exact Or.inl p
      · exact Or.inr ⟨k', by omega, h2⟩
      · exact Or.inr ⟨k, by omega, q⟩
    · rintro (p | ⟨k', h1, h2⟩)
      · exact Or.inl (Or.inl p)
      · by_cases e : k' = k
        · subst e; exact Or.inr h2
        · exact Or.inl (Or.inr ⟨k', by omega, h2⟩)
theorem gc_la59 {post : Int32 → Prop} {cm ce pl fl oc ec pc : Int32} {a1 a2 a3 a4 a5 a6 a7 a8 a9 a10 a11 a12 a13 a14 a15 a16 a17 : Nat → Int32} {l i o a b c : Nat} {x3 : Int32} {P : Nat → Prop} (hl : l ≤ 32) (hi : i < 32) (ho : gc_ok o a b c (a1 i) (a2 i) (a3 i) (a4 i))
    (h3 : ∀ v, bt x3 v = true ↔ P v) (H : ∀ r, (∀ v, bt r v = true ↔ (P v ∨ (o = 9 ∧ ∃ k, k < c ∧ gc_la l a6 (b + k) v))) → post r) :
    wX_liveAfter_59 post (nI i) (nI o) x3 (nI l) cm ce pl fl oc ec pc a1 a2 a3 a4 a5 a6 a7 a8 a9 a10 a11 a12 a13 a14 a15 a16 a17 := by
  obtain ⟨h1, h2, _, h4, h5, h6, h7, h8, h9⟩ := ho
  refine pk_eq o 9 (fun e => ?_) (fun e => ?_)
  · obtain ⟨hb, hb2⟩ := h8 (by omega) (by omega)
    obtain ⟨hc, hc2⟩ := h9 e
    refine gc_la68 hl hi hb hb2 hc hc2 h3 (fun r hr => H r (fun v => ?_))
    rw [hr]
    constructor
    · rintro (p | q)
      · exact Or.inl p
      · exact Or.inr ⟨e, q⟩
    · rintro (p | q)
      · exact Or.inl p
      · exact Or.inr q.2
  · refine H x3 (fun v => ?_)
    rw [h3]
    exact ⟨Or.inl, fun z => z.elim id (fun q => absurd q.1 e)⟩
theorem gc_liveAfter {post : Int32 → Prop} {cm ce pl fl oc ec pc : Int32} {a1 a2 a3 a4 a5 a6 a7 a8 a9 a10 a11 a12 a13 a14 a15 a16 a17 : Nat → Int32} {l i o a b c : Nat} (hl : l ≤ 32) (hi : i < l) (ho : gc_ok o a b c (a1 i) (a2 i) (a3 i) (a4 i))
    (H : ∀ r, (∀ v, bt r v = true ↔ gc_aft l o a b c a6 i v) → post r) : wpX_liveAfter post (nI l, cm, ce, pl, fl, oc, ec, pc, a1, a2, a3, a4, a5, a6, a7, a8, a9, a10, a11, a12, a13, a14, a15, a16, a17) (nI i) := by
  have ci : (nI i).toNatClampNeg = i := gc_cl (by omega)
  have ho' := ho
  obtain ⟨h1, h2, h3, h4, h5, h6, h7, h8, h9⟩ := ho
  refine ⟨pk_in i 32 (by omega), nm_r (e' := nI o) (by rw [ci]; exact h1) ?_⟩
  refine pk_eq o 10 (fun e => H 0 (fun v => ?_)) (fun e => pk_eq o 7 (fun e7 => ⟨pk_in i 32 (by omega), ?_⟩) (fun e7 => ?_))
  · rw [b_0]
    refine ⟨fun z => absurd z (by decide), fun z => ?_⟩
    rcases z with ⟨z, _⟩ | ⟨_, z, _⟩
    · omega
    · exact absurd e z
  · rw [ci, h3 e]
    have := h4 e7
    refine gc_liveAt hl (by omega) (fun r hr => H r (fun v => ?_))
    rw [hr]
    exact ⟨fun z => Or.inl ⟨e7, z⟩, fun z => z.elim (fun q => q.2) (fun q => absurd e7 q.1)⟩
  · rw [nI_1]
    refine gc_liveAt hl (by omega) (fun r hr => ?_)
    refine pk_eq o 8 (fun e8 => ⟨pk_in i 32 (by omega), ?_⟩) (fun e8 => ?_)
    · obtain ⟨hb, hb2⟩ := h8 (by omega) (by omega)
      rw [ci, hb]
      refine gc_liveAt hl (by omega) (fun r2 hr2 => nm_e ?_)
      refine gc_la59 (P := fun v => gc_la l a6 (i + 1) v ∨ gc_la l a6 b v) hl (by omega) ho' (fun v => by rw [gc_or, hr, hr2]) (fun r3 hr3 => H r3 (fun v => ?_))
      rw [hr3]
      constructor
      · rintro ((p | p) | ⟨p, _⟩)
        · exact Or.inr ⟨e7, e, Or.inl p⟩
        · exact Or.inr ⟨e7, e, Or.inr (Or.inl ⟨e8, p⟩)⟩
        · omega
      · rintro (⟨p, _⟩ | ⟨_, _, p | ⟨_, p⟩ | ⟨p, _⟩⟩)
        · exact absurd p e7
        · exact Or.inl (Or.inl p)
        · exact Or.inl (Or.inr p)
        · omega
    · refine gc_la59 (P := fun v => gc_la l a6 (i + 1) v) hl (by omega) ho' hr (fun r3 hr3 => H r3 (fun v => ?_))
      rw [hr3]
      constructor
      · rintro (p | p)
        · exact Or.inr ⟨e7, e, Or.inl p⟩
        · exact Or.inr ⟨e7, e, Or.inr (Or.inr p)⟩
      · rintro (⟨p, _⟩ | ⟨_, _, p | ⟨p, _⟩ | p⟩)
        · exact absurd p e7
        · exact Or.inl p
        · exact absurd p e8
        · exact Or.inr p
theorem gc_readBy {post : Int32 → Prop} {ln cm ce pl fl oc ec pc : Int32} {a1 a2 a3 a4 a5 a6 a7 a8 a9 a10 a11 a12 a13 a14 a15 a16 a17 : Nat → Int32} {i o a b c : Nat} (hi : i < 32) (ho : gc_ok o a b c (a1 i) (a2 i) (a3 i) (a4 i))
    (H : ∀ r, (∀ v, bt r v = true ↔ gc_rd o a b c v) → post r) : wpX_readBy post (ln, cm, ce, pl, fl, oc, ec, pc, a1, a2, a3, a4, a5, a6, a7, a8, a9, a10, a11, a12, a13, a14, a15, a16, a17) (nI i) := by
  have ci : (nI i).toNatClampNeg = i := gc_cl (by omega)
  obtain ⟨h1, h2, h3, h4, h5, h6, h7, h8, h9⟩ := ho
  have k67 : (o = 6 ∨ o = 8 ∨ o = 9) → wX_readBy_67 post (nI i) ln cm ce pl fl oc ec pc a1 a2 a3 a4 a5 a6 a7 a8 a9 a10 a11 a12 a13 a14 a15 a16 a17 := by
    intro e
    have ha := h3 (by omega)
    have ha2 := h5 (by omega) (by omega)
    refine ⟨pk_in i 32 hi, ?_⟩
    rw [ci, ha]
    refine H _ (fun v => ?_)
    rw [gc_one (by omega)]
    unfold gc_rd
    omega
  have k49 : (o < 1 ∨ 5 < o) → wX_readBy_49 post (nI i) (nI o) ln cm ce pl fl oc ec pc a1 a2 a3 a4 a5 a6 a7 a8 a9 a10 a11 a12 a13 a14 a15 a16 a17 := by
    intro e
    refine pk_eq o 6 (fun e => k67 (by omega)) (fun e6 => pk_eq o 8 (fun e => k67 (by omega)) (fun e8 => pk_eq o 9 (fun e => k67 (by omega)) (fun e9 => H 0 (fun v => ?_))))
    rw [b_0]
    unfold gc_rd
    exact ⟨fun z => absurd z (by decide), fun z => by omega⟩
  refine ⟨pk_in i 32 hi, nm_r (e' := nI o) (by rw [ci]; exact h1) ?_⟩
  refine pk_eq o 1 (fun e => ⟨pk_in i 32 hi, ?_⟩) (fun e1 => pk_lt o 2 (fun e => k49 (by omega)) (fun e2 => pk_lt 5 o (fun e => k49 (by omega)) (fun e5 => ⟨pk_in i 32 hi, pk_in i 32 hi, ?_⟩)))
  · obtain ⟨hb, hb2⟩ := h6 (by omega) (by omega)
    rw [ci, hb]
    refine H _ (fun v => ?_)
    rw [gc_one (by omega)]
    unfold gc_rd
    omega
  · obtain ⟨hb, hb2⟩ := h6 (by omega) (by omega)
    obtain ⟨hc, hc2⟩ := h7 (by omega) (by omega)
    rw [ci, hb, hc]
    refine H _ (fun v => ?_)
    rw [gc_or, gc_one (by omega), gc_one (by omega)]
    unfold gc_rd
    omega
theorem gc_writtenBy {post : Int32 → Prop} {ln cm ce pl fl oc ec pc : Int32} {a1 a2 a3 a4 a5 a6 a7 a8 a9 a10 a11 a12 a13 a14 a15 a16 a17 : Nat → Int32} {i o a b c : Nat} (hi : i < 32) (ho : gc_ok o a b c (a1 i) (a2 i) (a3 i) (a4 i))
    (H : ∀ r, (∀ v, bt r v = true ↔ gc_wr o a v) → post r) : wpX_writtenBy post (ln, cm, ce, pl, fl, oc, ec, pc, a1, a2, a3, a4, a5, a6, a7, a8, a9, a10, a11, a12, a13, a14, a15, a16, a17) (nI i) := by
  have ci : (nI i).toNatClampNeg = i := gc_cl (by omega)
  obtain ⟨h1, h2, h3, h4, h5, h6, h7, h8, h9⟩ := ho
  refine ⟨pk_in i 32 hi, pk_lt 5 o (fun e => H 0 (fun v => ?_)) (fun e => ⟨pk_in i 32 hi, ?_⟩) rfl (by rw [ci]; exact h1)⟩
  · rw [b_0]
    unfold gc_wr
    exact ⟨fun z => absurd z (by decide), fun z => by omega⟩
  · rw [ci, h3 (by omega)]
    have := h5 (by omega) (by omega)
    refine H _ (fun v => ?_)
    rw [gc_one (by omega)]
    unfold gc_wr
    omega
/-! findLiveness -/
def gc_SM (a6 : Nat → Int32) : Prop := ∀ i, i < 32 → ∀ v, bt (a6 i) v = true → v < 8
def gc_PF (l : Nat) (O A B C : Nat → Nat) (a6 : Nat → Int32) : Prop := ∀ i v, i < l → bt (a6 i) v = true → gc_F l (O i) (A i) (B i) (C i) a6 i v
def gc_FP (l : Nat) (O A B C : Nat → Nat) (a6 : Nat → Int32) : Prop := ∀ i v, i < l → gc_F l (O i) (A i) (B i) (C i) a6 i v → bt (a6 i) v = true
def gc_in (l : Nat) (O A B C : Nat → Nat) (a60 : Nat → Int32) (k : Nat) (s : Int32 × (Nat → Int32)) : Prop :=
  k ≤ l ∧ gc_PF l O A B C s.2 ∧ gc_SM s.2 ∧ (∀ i v, i < 32 → bt (a60 i) v = true → bt (s.2 i) v = true) ∧
  ((s.1 = 0 ∧ s.2 = a60 ∧ ∀ j v, k ≤ j → j < l → gc_F l (O j) (A j) (B j) (C j) s.2 j v → bt (s.2 j) v = true) ∨ (s.1 = 1 ∧ gc_ct a60 32 < gc_ct s.2 32))
theorem gc_in_step {l : Nat} {O A B C : Nat → Nat} {a1 a2 a3 a4 a60 : Nat → Int32} {k : Nat} {x1 x : Int32} {a6 : Nat → Int32} (hs : gc_src l O A B C a1 a2 a3 a4)
    (hx : ∀ v, bt x v = true ↔ gc_F l (O k) (A k) (B k) (C k) a6 k v) (h : gc_in l O A B C a60 (k + 1) (x1, a6)) :
    (x = a6 k → gc_in l O A B C a60 k (x1, upd a6 k x)) ∧ (¬ x = a6 k → gc_in l O A B C a60 k (1, upd a6 k x)) := by
  obtain ⟨hk, h1, h2, h3, h4⟩ := h
  dsimp only at h1 h2 h3 h4
  have hl := hs.1
  have up : ∀ i v, i < 32 → bt (a6 i) v = true → bt (upd a6 k x i) v = true := by
    intro i v hi hb
    by_cases e : i = k
    · rw [e, pk_us, hx]
      rw [e] at hb
      exact h1 k v (by omega) hb
    · rw [pk_un e]
      exact hb
  have n1 : gc_PF l O A B C (upd a6 k x) := by
    intro i v hi hb
    by_cases e : i = k
    · rw [e, pk_us, hx] at hb
      rw [e]
      exact gc_F_mono hl up hb
    · rw [pk_un e] at hb
      exact gc_F_mono hl up (h1 i v hi hb)
  have n2 : gc_SM (upd a6 k x) := by
    intro i hi v hb
    by_cases e : i = k
    · rw [e, pk_us, hx] at hb
      exact gc_F_8 (hs.2 k (by omega)) hl h2 hb
    · rw [pk_un e] at hb
      exact h2 i hi v hb
  have n3 : ∀ i v, i < 32 → bt (a60 i) v = true → bt (upd a6 k x i) v = true := fun i v hi hb => up i v hi (h3 i v hi hb)
  constructor
  · intro e
    have eu : upd a6 k x = a6 := by rw [e]; exact gc_upd_self a6 k
    refine ⟨by omega, n1, n2, n3, ?_⟩
    dsimp only
    rw [eu]
    rcases h4 with ⟨p, q, r⟩ | p
    · refine Or.inl ⟨p, q, fun j v hj hj2 hF => ?_⟩
      by_cases ej : j = k
      · rw [ej] at hF
        rw [ej, ← e, hx]
        exact hF
      · exact r j v (by omega) hj2 hF
    · exact Or.inr p
  · intro e
    refine ⟨by omega, n1, n2, n3, Or.inr ⟨rfl, ?_⟩⟩
    dsimp only
    have m1 : ∀ i, i < 32 → gc_pc (a60 i) ≤ gc_pc (a6 i) := fun i hi => gc_pc_mono (fun v => h3 i v hi)
    have m2 : ∀ i, i < 32 → gc_pc (a6 i) ≤ gc_pc (upd a6 k x i) := fun i hi => gc_pc_mono (fun v => up i v hi)
    have q1 := gc_ct_mono 32 m1
    have : gc_ct a6 32 < gc_ct (upd a6 k x) 32 := by
      refine gc_ct_lt 32 m2 ⟨k, by omega, ?_⟩
      apply Classical.byContradiction
      intro hn
      apply e
      apply b_ext
      intro v hv
      cases eb : bt (a6 k) v
      · cases ex : bt x v
        · rfl
        · exfalso
          apply hn
          refine gc_pc_lt (fun w => up k w (by omega)) (v := v) ?_ eb (by rw [pk_us]; exact ex)
          exact gc_F_8 (hs.2 k (by omega)) hl h2 ((hx v).mp ex)
      · rw [hx]
        exact h1 k v (by omega) eb
    omega
theorem gc_fl45 {post : St1 → Prop} {J : Int32 → Int32 → (Nat → Int32) → (Nat → Int32) → (Nat → Int32) → (Nat → Int32) → (Nat → Int32) → (Nat → Int32) → (Nat → Int32) → (Nat → Int32) → (Nat → Int32) → (Nat → Int32) → (Nat → Int32) → (Nat → Int32) → (Nat → Int32) → (Nat → Int32) → (Nat → Int32) → (Nat → Int32) → (Nat → Int32) → Prop}
    {x2 : Int32} {cm ce pl fl oc ec pc : Int32} {a1 a2 a3 a4 a5 a6 a7 a8 a9 a10 a11 a12 a13 a14 a15 a16 a17 : Nat → Int32} {l : Nat} {O A B C : Nat → Nat} (hs : gc_src l O A B C a1 a2 a3 a4) (h1 : gc_PF l O A B C a6) (h2 : gc_SM a6)
    (H : ∀ x1 b6, gc_in l O A B C a6 0 (x1, b6) → J x1 (x2 + 1) a1 a2 a3 a4 a5 b6 a7 a8 a9 a10 a11 a12 a13 a14 a15 a16 a17) :
    ∃ n, wX_findLiveness_45 post J x2 (nI l) cm ce pl fl oc ec pc n 0 (nI l - 1) a1 a2 a3 a4 a5 a6 a7 a8 a9 a10 a11 a12 a13 a14 a15 a16 a17 := by
  have hl := hs.1
  refine ⟨l + 1, ?_⟩
  rw [gc_m1]
  refine pk_loopD (fun n k (s : Int32 × (Nat → Int32)) => wX_findLiveness_45 post J x2 (nI l) cm ce pl fl oc ec pc n s.1 (nI k + (-1)) a1 a2 a3 a4 a5 s.2 a7 a8 a9 a10 a11 a12 a13 a14 a15 a16 a17) (gc_in l O A B C a6) ?_ ?_ l (0, a6) ?_
  · intro n s h
    exact br_t gc_n1 (nm_e (H s.1 s.2 h))
  · intro n k s h hw
    obtain ⟨x1, b6⟩ := s
    have hk := h.1
    have ci : (nI k).toNatClampNeg = k := gc_cl (by omega)
    dsimp only at hw ⊢
    rw [pk_m1]
    refine br_f (nI_pos (by omega)) ?_
    refine gc_liveAfter hl (by omega) (hs.2 k (by omega)) (fun r7 e7 => ?_)
    refine gc_readBy (by omega) (hs.2 k (by omega)) (fun r8 e8 => ?_)
    refine gc_writtenBy (by omega) (hs.2 k (by omega)) (fun r9 e9 => ?_)
    refine nm_e ⟨pk_in k 32 (by omega), ?_⟩
    have hx : ∀ v, bt (r8 ||| (r7 &&& (r9 ^^^ (-1)))) v = true ↔ gc_F l (O k) (A k) (B k) (C k) b6 k v := by
      intro v
      unfold gc_F
      rw [gc_or, gc_and, ← e8, ← e7, ← e9]
      rcases Nat.lt_or_ge v 32 with z | z
      · rw [gc_not _ z]
      · rw [b_big z, b_big z, b_big z]
        simp
    have st := gc_in_step hs hx h
    rw [ci]
    refine br_c (fun e => ⟨pk_in k 32 (by omega), nm_e (nm_e (hw _ (st.1 e)))⟩) (fun e => ⟨pk_in k 32 (by omega), nm_e (nm_e (hw _ (st.2 e)))⟩)
  · refine ⟨Nat.le_refl l, h1, h2, fun i v _ z => z, Or.inl ⟨rfl, rfl, fun j v p q => absurd q (by omega)⟩⟩
def gc_o25 (l : Nat) (O A B C : Nat → Nat) (r : Nat) (s : Int32 × (Nat → Int32)) : Prop :=
  gc_PF l O A B C s.2 ∧ gc_SM s.2 ∧ ((s.1 = 0 ∧ gc_FP l O A B C s.2) ∨ (s.1 = 1 ∧ r ≤ gc_ct s.2 32))
theorem gc_fl25 {post : St1 → Prop} {cm ce pl fl oc ec pc : Int32} {a1 a2 a3 a4 a5 a6 a7 a8 a9 a10 a11 a12 a13 a14 a15 a16 a17 : Nat → Int32} {l : Nat} {O A B C : Nat → Nat} (hs : gc_src l O A B C a1 a2 a3 a4) (h1 : gc_PF l O A B C a6) (h2 : gc_SM a6)
    (H : ∀ b6, gc_SM b6 → gc_FP l O A B C b6 → post (nI l, cm, ce, pl, fl, oc, ec, pc, a1, a2, a3, a4, a5, b6, a7, a8, a9, a10, a11, a12, a13, a14, a15, a16, a17)) :
    ∃ n, wX_findLiveness_25 post (nI l) cm ce pl fl oc ec pc n 1 0 a1 a2 a3 a4 a5 a6 a7 a8 a9 a10 a11 a12 a13 a14 a15 a16 a17 := by
  refine pk_loop (fun n r (s : Int32 × (Nat → Int32)) => wX_findLiveness_25 post (nI l) cm ce pl fl oc ec pc n s.1 (nI r) a1 a2 a3 a4 a5 s.2 a7 a8 a9 a10 a11 a12 a13 a14 a15 a16 a17) (gc_o25 l O A B C) 257 0 (1, a6) (by omega) ?_ ?_ ?_
  · exact ⟨h1, h2, Or.inr ⟨rfl, Nat.zero_le _⟩⟩
  · intro n s h
    obtain ⟨x1, b6⟩ := s
    obtain ⟨k1, k2, k3⟩ := h
    dsimp only at k1 k2 k3
    refine pk_le 257 257 (fun _ => ?_) (fun z => absurd z (by omega))
    rcases k3 with ⟨_, k3⟩ | ⟨_, k3⟩
    · exact H b6 k2 k3
    · have := gc_ct_le b6 32
      omega
  · intro n r s hr h hw
    obtain ⟨x1, b6⟩ := s
    obtain ⟨k1, k2, k3⟩ := h
    dsimp only at k1 k2 k3
    refine pk_le 257 r (fun z => absurd z (by omega)) (fun _ => ?_)
    rcases k3 with ⟨e, k3⟩ | ⟨e, k3⟩
    · exact br_t e (H b6 k2 k3)
    · subst e
      refine br_f (show ¬ (1 : Int32) = 0 by decide) (nm_e ?_)
      refine gc_fl45 hs k1 k2 (fun x1' c6 hc => ?_)
      rw [nI_1]
      refine hw (x1', c6) ?_
      obtain ⟨c0, c1, c2, c3, c4⟩ := hc
      refine ⟨c1, c2, ?_⟩
      dsimp only at c4 ⊢
      rcases c4 with ⟨p, q, t⟩ | ⟨p, q⟩
      · exact Or.inl ⟨p, fun i v hi hF => t i v (Nat.zero_le _) hi hF⟩
      · exact Or.inr ⟨p, by omega⟩
theorem gc_findLiveness {post : St1 → Prop} {cm ce pl fl oc ec pc : Int32} {a1 a2 a3 a4 a5 a6 a7 a8 a9 a10 a11 a12 a13 a14 a15 a16 a17 : Nat → Int32} {l : Nat} {O A B C : Nat → Nat} (hs : gc_src l O A B C a1 a2 a3 a4)
    (H : ∀ b6, gc_SM b6 → gc_FP l O A B C b6 → post (nI l, cm, ce, pl, fl, oc, ec, pc, a1, a2, a3, a4, a5, b6, a7, a8, a9, a10, a11, a12, a13, a14, a15, a16, a17)) :
    wpX_findLiveness post (nI l, cm, ce, pl, fl, oc, ec, pc, a1, a2, a3, a4, a5, a6, a7, a8, a9, a10, a11, a12, a13, a14, a15, a16, a17) := by
  have hl := hs.1
  refine pk_loop (fun n k s => wX_findLiveness_4 post 1 (nI l) cm ce pl fl oc ec pc n (nI k) a1 a2 a3 a4 a5 s a7 a8 a9 a10 a11 a12 a13 a14 a15 a16 a17) (fun k s => ∀ j, j < k → s j = 0) 32 0 a6 (by omega) ?_ ?_ ?_
  · intro j hj
    omega
  · intro n s h
    refine pk_le 32 32 (fun _ => ?_) (fun z => absurd z (by omega))
    have z : ∀ i v, i < 32 → ¬ bt (s i) v = true := by
      intro i v hi hb
      rw [h i hi, b_0] at hb
      cases hb
    exact gc_fl25 hs (fun i v hi hb => absurd hb (z i v (by omega))) (fun i hi v hb => absurd hb (z i v hi)) H
  · intro n k s hk h hw
    refine pk_le 32 k (fun z => absurd z (by omega)) (fun _ => ⟨pk_in k 32 hk, nm_e (nm_r (nI_1 k) (hw _ ?_))⟩)
    rw [gc_cl (by omega)]
    intro j hj
    by_cases e : j = k
    · rw [e, pk_us]
    · rw [pk_un e]
      exact h j (by omega)
end
section
/-! rivals: what is put in stays in, both ways -/
def gc_up (f g : Nat → Int32) : Prop := ∀ u w, bt (f u) w = true → bt (g u) w = true
theorem gc_up_or (f : Nat → Int32) (k : Nat) (x : Int32) : gc_up f (upd f k (f k ||| x)) := by
  intro u w h
  by_cases e : u = k
  · rw [e, pk_us, gc_or]
    rw [e] at h
    exact Or.inl h
  · rw [pk_un e]
    exact h
theorem gc_up_t {f g h : Nat → Int32} (p : gc_up f g) (q : gc_up g h) : gc_up f h := fun u w z => q u w (p u w z)
/-- u and v are rivals, on both sides -/
def gc_rv (f : Nat → Int32) (u v : Nat) : Prop := bt (f u) v = true ∧ bt (f v) u = true
theorem gc_rv_up {f g : Nat → Int32} (p : gc_up f g) {u v : Nat} (h : gc_rv f u v) : gc_rv g u v := ⟨p u v h.1, p v u h.2⟩
theorem gc_mr42 {post : St1 → Prop} {J : Int32 → (Nat → Int32) → (Nat → Int32) → (Nat → Int32) → (Nat → Int32) → (Nat → Int32) → (Nat → Int32) → (Nat → Int32) → (Nat → Int32) → (Nat → Int32) → (Nat → Int32) → (Nat → Int32) → (Nat → Int32) → (Nat → Int32) → (Nat → Int32) → (Nat → Int32) → (Nat → Int32) → (Nat → Int32) → Prop}
    {x1 x2 x4 : Int32} {ln cm ce pl fl oc ec pc : Int32} {a1 a2 a3 a4 a5 a6 a7 a8 a9 a10 a11 a12 a13 a14 a15 a16 a17 : Nat → Int32} {v : Nat} (hv : v < 8)
    (H : ∀ b7, gc_up a7 b7 → (∀ u, u < 8 → bt x4 u = true → bt (b7 u) v = true) → J (nI (v + 1)) a1 a2 a3 a4 a5 a6 b7 a8 a9 a10 a11 a12 a13 a14 a15 a16 a17) :
    ∃ n, wX_makeRivals_42 post J x1 x2 (nI v) x4 ln cm ce pl fl oc ec pc n 0 a1 a2 a3 a4 a5 a6 a7 a8 a9 a10 a11 a12 a13 a14 a15 a16 a17 := by
  refine pk_loop (fun n k s => wX_makeRivals_42 post J x1 x2 (nI v) x4 ln cm ce pl fl oc ec pc n (nI k) a1 a2 a3 a4 a5 a6 s a8 a9 a10 a11 a12 a13 a14 a15 a16 a17) (fun k s => gc_up a7 s ∧ ∀ u, u < k → bt x4 u = true → bt (s u) v = true) 8 0 a7 (by omega) ?_ ?_ ?_
  · exact ⟨fun _ _ z => z, fun u hu => absurd hu (by omega)⟩
  · intro n s h
    exact pk_le 8 8 (fun _ => nm_r (nI_1 v) (H s h.1 h.2)) (fun z => absurd z (by omega))
  · intro n k s hk h hw
    have ck : (nI k).toNatClampNeg = k := gc_cl (by omega)
    refine pk_le 8 k (fun z => absurd z (by omega)) (fun _ => gc_tstB (by omega) (fun e => nm_r (nI_1 k) (hw _ ⟨h.1, ?_⟩)) (fun e => ⟨pk_in k 8 hk, pk_in k 8 hk, nm_e (nm_r (nI_1 k) (hw _ ?_))⟩))
    · intro u hu hb
      by_cases eu : u = k
      · rw [eu, e] at hb
        cases hb
      · exact h.2 u (by omega) hb
    · rw [ck]
      have up := gc_up_or s k ((1 : Int32) <<< (nI v &&& 31))
      refine ⟨gc_up_t h.1 up, ?_⟩
      intro u hu hb
      by_cases eu : u = k
      · rw [eu, pk_us, gc_or, gc_one (by omega)]
        exact Or.inr rfl
      · exact up u v (h.2 u (by omega) hb)
theorem gc_makeRivals {post : St1 → Prop} {x1 x2 : Int32} {ln cm ce pl fl oc ec pc : Int32} {a1 a2 a3 a4 a5 a6 a7 a8 a9 a10 a11 a12 a13 a14 a15 a16 a17 : Nat → Int32}
    (H : ∀ b7, gc_up a7 b7 → (∀ u v, u < 8 → v < 8 → u ≠ v → bt x1 v = true → bt x2 u = true → gc_rv b7 u v) → post (ln, cm, ce, pl, fl, oc, ec, pc, a1, a2, a3, a4, a5, a6, b7, a8, a9, a10, a11, a12, a13, a14, a15, a16, a17)) :
    wpX_makeRivals post (ln, cm, ce, pl, fl, oc, ec, pc, a1, a2, a3, a4, a5, a6, a7, a8, a9, a10, a11, a12, a13, a14, a15, a16, a17) x1 x2 := by
  refine pk_loop (fun n k s => wX_makeRivals_2 post x1 x2 ln cm ce pl fl oc ec pc n (nI k) a1 a2 a3 a4 a5 a6 s a8 a9 a10 a11 a12 a13 a14 a15 a16 a17) (fun k s => gc_up a7 s ∧ ∀ u v, u < 8 → v < k → u ≠ v → bt x1 v = true → bt x2 u = true → gc_rv s u v) 8 0 a7 (by omega) ?_ ?_ ?_
  · exact ⟨fun _ _ z => z, fun u v _ hv => absurd hv (by omega)⟩
  · intro n s h
    exact pk_le 8 8 (fun _ => H s h.1 h.2) (fun z => absurd z (by omega))
  · intro n k s hk h hw
    have ck : (nI k).toNatClampNeg = k := gc_cl (by omega)
    refine pk_le 8 k (fun z => absurd z (by omega)) (fun _ => gc_tstB (by omega) (fun e => nm_r (nI_1 k) (hw _ ⟨h.1, ?_⟩)) (fun e => nm_e ⟨pk_in k 8 hk, pk_in k 8 hk, nm_e ?_⟩))
    · intro u v hu hv hn hb hb2
      by_cases ev : v = k
      · rw [ev, e] at hb
        cases hb
      · exact h.2 u v hu (by omega) hn hb hb2
    · rw [ck]
      refine gc_mr42 hk (fun b7 q1 q2 => hw _ ?_)
      have up := gc_up_or s k (x2 &&& (((1 : Int32) <<< (nI k &&& 31)) ^^^ (-1)))
      have up2 := gc_up_t up q1
      refine ⟨gc_up_t h.1 up2, ?_⟩
      intro u v hu hv hn hb hb2
      by_cases ev : v = k
      · subst ev
        have ha : bt (x2 &&& (((1 : Int32) <<< (nI v &&& 31)) ^^^ (-1))) u = true := by
          rw [gc_and, gc_not _ (by omega), gc_one (by omega)]
          exact ⟨hb2, hn⟩
        refine ⟨q2 u hu ha, q1 v u ?_⟩
        rw [pk_us, gc_or]
        exact Or.inr ha
      · exact gc_rv_up up2 (h.2 u v hu (by omega) hn hb hb2)
/-- all that must be rivals are, as far as the instructions below m go -/
def gc_rs (l : Nat) (O A B C : Nat → Nat) (a6 : Nat → Int32) (m : Nat) (f : Nat → Int32) : Prop :=
  (∀ u v, u < 8 → v < 8 → u ≠ v → gc_la l a6 0 v → gc_la l a6 0 u → gc_rv f u v) ∧
  (∀ i, i < m → ∀ u v, u < 8 → v < 8 → u ≠ v → gc_wr (O i) (A i) v → gc_aft l (O i) (A i) (B i) (C i) a6 i u → gc_rv f u v)
theorem gc_fr35 {post : St1 → Prop} {cm ce pl fl oc ec pc : Int32} {a1 a2 a3 a4 a5 a6 a7 a8 a9 a10 a11 a12 a13 a14 a15 a16 a17 : Nat → Int32} {l : Nat} {O A B C : Nat → Nat} (hs : gc_src l O A B C a1 a2 a3 a4) (h0 : gc_rs l O A B C a6 0 a7)
    (H : ∀ b7, gc_rs l O A B C a6 l b7 → post (nI l, cm, ce, pl, fl, oc, ec, pc, a1, a2, a3, a4, a5, a6, b7, a8, a9, a10, a11, a12, a13, a14, a15, a16, a17)) : ∃ n, wX_findRivals_35 post n 0 (nI l) cm ce pl fl oc ec pc a1 a2 a3 a4 a5 a6 a7 a8 a9 a10 a11 a12 a13 a14 a15 a16 a17 := by
  have hl := hs.1
  refine pk_loop (fun n k s => wX_findRivals_35 post n (nI k) (nI l) cm ce pl fl oc ec pc a1 a2 a3 a4 a5 a6 s a8 a9 a10 a11 a12 a13 a14 a15 a16 a17) (fun k s => gc_rs l O A B C a6 k s) l 0 a7 (by omega) h0 ?_ ?_
  · intro n s h
    exact pk_le l l (fun _ => H s h) (fun z => absurd z (by omega))
  · intro n k s hk h hw
    refine pk_le l k (fun z => absurd z (by omega)) (fun _ => ?_)
    refine gc_writtenBy (by omega) (hs.2 k hk) (fun r1 e1 => ?_)
    refine gc_liveAfter hl hk (hs.2 k hk) (fun r2 e2 => ?_)
    refine gc_makeRivals (fun b7 q1 q2 => nm_r (nI_1 k) (hw _ ⟨?_, ?_⟩))
    · exact fun u v hu hv hn p q => gc_rv_up q1 (h.1 u v hu hv hn p q)
    · intro i hi u v hu hv hn p q
      by_cases e : i = k
      · subst e
        exact q2 u v hu hv hn ((e1 v).mpr p) ((e2 u).mpr q)
      · exact gc_rv_up q1 (h.2 i (by omega) u v hu hv hn p q)
theorem gc_findRivals {post : St1 → Prop} {cm ce pl fl oc ec pc : Int32} {a1 a2 a3 a4 a5 a6 a7 a8 a9 a10 a11 a12 a13 a14 a15 a16 a17 : Nat → Int32} {l : Nat} {O A B C : Nat → Nat} (hs : gc_src l O A B C a1 a2 a3 a4)
    (H : ∀ b7, gc_rs l O A B C a6 l b7 → post (nI l, cm, ce, pl, fl, oc, ec, pc, a1, a2, a3, a4, a5, a6, b7, a8, a9, a10, a11, a12, a13, a14, a15, a16, a17)) : wpX_findRivals post (nI l, cm, ce, pl, fl, oc, ec, pc, a1, a2, a3, a4, a5, a6, a7, a8, a9, a10, a11, a12, a13, a14, a15, a16, a17) := by
  have hl := hs.1
  refine pk_loop (fun n k s => wX_findRivals_2 post (nI l) cm ce pl fl oc ec pc n (nI k) a1 a2 a3 a4 a5 a6 s a8 a9 a10 a11 a12 a13 a14 a15 a16 a17) (fun k s => True) 8 0 a7 (by omega) trivial ?_ ?_
  · intro n s _
    refine pk_le 8 8 (fun _ => ?_) (fun z => absurd z (by omega))
    refine gc_liveAt (j := 0) hl (by omega) (fun r hr => ?_)
    refine gc_makeRivals (fun b7 q1 q2 => gc_fr35 hs ⟨?_, fun i hi => absurd hi (by omega)⟩ H)
    exact fun u v hu hv hn p q => q2 u v hu hv hn ((hr v).mpr p) ((hr u).mpr q)
  · intro n k s hk _ hw
    exact pk_le 8 k (fun z => absurd z (by omega)) (fun _ => ⟨pk_in k 8 hk, nm_e (nm_r (nI_1 k) (hw _ trivial))⟩)
end
section
/-! colours -/
theorem gc_bitsIn {post : Int32 → Prop} {ln cm ce pl fl oc ec pc : Int32} {a1 a2 a3 a4 a5 a6 a7 a8 a9 a10 a11 a12 a13 a14 a15 a16 a17 : Nat → Int32} {p : Int32} (H : ∀ r, post r) : wpX_bitsIn post (ln, cm, ce, pl, fl, oc, ec, pc, a1, a2, a3, a4, a5, a6, a7, a8, a9, a10, a11, a12, a13, a14, a15, a16, a17) p := by
  refine pk_loop (fun n k s => wX_bitsIn_4 post p ln cm ce pl fl oc ec pc a1 a2 a3 a4 a5 a6 a7 a8 a9 a10 a11 a12 a13 a14 a15 a16 a17 n s (nI k)) (fun k s => True) 8 0 0 (by omega) trivial ?_ ?_
  · intro n s _
    exact pk_le 8 8 (fun _ => H s) (fun z => absurd z (by omega))
  · intro n k s hk _ hw
    exact pk_le 8 k (fun z => absurd z (by omega)) (fun _ => nm_e (nm_r (nI_1 k) (hw _ trivial)))
theorem gc_easiest {post : Int32 → Prop} {ln cm ce pl fl oc ec pc : Int32} {a1 a2 a3 a4 a5 a6 a7 a8 a9 a10 a11 a12 a13 a14 a15 a16 a17 : Nat → Int32} {p : Int32} (hp : ∃ v, v < 8 ∧ bt p v = true) (H : ∀ v, v < 8 → bt p v = true → post (nI v)) : wpX_easiest post (ln, cm, ce, pl, fl, oc, ec, pc, a1, a2, a3, a4, a5, a6, a7, a8, a9, a10, a11, a12, a13, a14, a15, a16, a17) p := by
  refine pk_loop (fun n k (s : Int32 × Int32) => wX_easiest_7 post p ln cm ce pl fl oc ec pc a1 a2 a3 a4 a5 a6 a7 a8 a9 a10 a11 a12 a13 a14 a15 a16 a17 n s.1 s.2 (nI k)) (fun k s => (s.2 = -1 ∧ ∀ v, v < k → bt p v = false) ∨ ∃ v, v < 8 ∧ bt p v = true ∧ s.1 = nI v) 8 0 (-1, -1) (by omega) ?_ ?_ ?_
  · exact Or.inl ⟨rfl, fun v hv => absurd hv (by omega)⟩
  · intro n s h
    refine pk_le 8 8 (fun _ => ?_) (fun z => absurd z (by omega))
    rcases h with ⟨_, h⟩ | ⟨v, hv, hb, e⟩
    · obtain ⟨v, hv, hb⟩ := hp
      rw [h v hv] at hb
      cases hb
    · rw [e]
      exact H v hv hb
  · intro n k s hk h hw
    obtain ⟨x2, x3⟩ := s
    dsimp only at h hw ⊢
    have ck : (nI k).toNatClampNeg = k := gc_cl (by omega)
    refine pk_le 8 k (fun z => absurd z (by omega)) (fun _ => gc_tstB (by omega) (fun e => nm_r (nI_1 k) (hw (x2, x3) ?_)) (fun e => ⟨pk_in k 8 hk, gc_bitsIn (fun r => br_c (fun h3 => br_c (fun h4 => nm_r (nI_1 k) (hw (x2, x3) ?_)) (fun h4 => nm_r (nI_1 k) (hw (nI k, r) (Or.inr ⟨k, hk, e, rfl⟩)))) (fun h3 => H k hk e))⟩))
    · rcases h with ⟨e2, h⟩ | h
      · refine Or.inl ⟨e2, fun v hv => ?_⟩
        by_cases ev : v = k
        · rw [ev]
          exact e
        · exact h v (by omega)
      · exact Or.inr h
    · rcases h with ⟨e2, h⟩ | h
      · exfalso
        rw [e2] at h4
        exact absurd (Int32.le_trans h3 h4) (by decide)
      · exact Or.inr h
theorem gc_freeColour {post : Int32 → Prop} {ln cm ce pl fl oc ec pc : Int32} {a1 a2 a3 a4 a5 a6 a7 a8 a9 a10 a11 a12 a13 a14 a15 a16 a17 : Nat → Int32} {p : Int32} (H1 : post (-1)) (H2 : ∀ c, c < 3 → (∀ u, u < 8 → bt p u = true → ¬ a8 u = nI c) → post (nI c)) : wpX_freeColour post (ln, cm, ce, pl, fl, oc, ec, pc, a1, a2, a3, a4, a5, a6, a7, a8, a9, a10, a11, a12, a13, a14, a15, a16, a17) p := by
  refine pk_loop (fun n k s => wX_freeColour_4 post p ln cm ce pl fl oc ec pc a1 a2 a3 a4 a5 a6 a7 a8 a9 a10 a11 a12 a13 a14 a15 a16 a17 n s (nI k)) (fun k s => ∀ u, u < k → bt p u = true → ∀ c, c < 3 → a8 u = nI c → bt s c = true) 8 0 0 (by omega) ?_ ?_ ?_
  · intro u hu
    omega
  · intro n s h
    refine pk_le 8 8 (fun _ => ?_) (fun z => absurd z (by omega))
    refine pk_loop (σ := Unit) (fun n k _ => wX_freeColour_37 post s ln cm ce pl fl oc ec pc a1 a2 a3 a4 a5 a6 a7 a8 a9 a10 a11 a12 a13 a14 a15 a16 a17 n (nI k)) (fun _ _ => True) 3 0 () (by omega) trivial ?_ ?_
    · intro n _ _
      exact pk_le 3 3 (fun _ => H1) (fun z => absurd z (by omega))
    · intro n k _ hk _ hw
      refine pk_le 3 k (fun z => absurd z (by omega)) (fun _ => gc_tstB (by omega) (fun e => H2 k hk ?_) (fun e => nm_r (nI_1 k) (hw () trivial)))
      intro u hu hb ea
      have := h u hu hb k hk ea
      rw [e] at this
      cases this
  · intro n k s hk h hw
    have ck : (nI k).toNatClampNeg = k := gc_cl (by omega)
    refine pk_le 8 k (fun z => absurd z (by omega)) (fun _ => gc_tstB (by omega) (fun e => nm_r (nI_1 k) (hw _ ?_)) (fun e => ⟨pk_in k 8 hk, nm_e (nm_r (nI_1 k) (hw _ ?_))⟩))
    · intro u hu hb
      by_cases eu : u = k
      · rw [eu, e] at hb
        cases hb
      · exact h u (by omega) hb
    · intro u hu hb c hc ea
      rw [gc_or]
      by_cases eu : u = k
      · subst eu
        rw [ck, ea, gc_one (by omega)]
        exact Or.inr rfl
      · exact Or.inl (h u (by omega) hb c hc ea)
/-- the picture of the colours: 3 stands for memory -/
def gc_K (K : Nat → Nat) (a8 : Nat → Int32) : Prop := ∀ v, v < 8 → K v ≤ 3 ∧ (K v < 3 → a8 v = nI (K v)) ∧ (K v = 3 → a8 v = -1)
def gc_cn (x : Int32) : Prop := x = -1 ∨ ∃ c, c < 3 ∧ x = nI c
def gc_pr (a9 : Nat → Int32) (k v : Nat) : Prop := ∃ j, k ≤ j ∧ j < 8 ∧ a9 j = nI v
def gc_cI (a7 a9 : Nat → Int32) (k : Nat) (s : Int32 × (Nat → Int32)) : Prop :=
  k ≤ 8 ∧ (∀ v, v < 8 → gc_pr a9 k v → gc_cn (s.2 v)) ∧ (∀ v, v < 8 → gc_pr a9 k v → ∀ c, c < 3 → s.2 v = nI c → bt s.1 v = true) ∧
  (∀ u v, u < 8 → v < 8 → u ≠ v → gc_pr a9 k u → gc_pr a9 k v → gc_rv a7 u v → ∀ c, c < 3 → s.2 u = nI c → s.2 v = nI c → False)
theorem gc_cI_step {a7 a9 : Nat → Int32} {k v : Nat} {x2 y r : Int32} {a8 : Nat → Int32} (h : gc_cI a7 a9 (k + 1) (x2, a8)) (hv : v < 8) (e9 : a9 k = nI v)
    (hr : r = -1 ∨ ∃ c, c < 3 ∧ r = nI c ∧ ∀ u, u < 8 → bt (a7 v &&& x2) u = true → ¬ a8 u = nI c) (hy : ∀ w, bt x2 w = true → bt y w = true) (hy2 : ∀ c, c < 3 → r = nI c → bt y v = true) :
    gc_cI a7 a9 k (y, upd a8 v r) := by
  obtain ⟨h0, h1, h2, h3⟩ := h
  dsimp only at h1 h2 h3
  have pr : ∀ w, w < 8 → w ≠ v → gc_pr a9 k w → gc_pr a9 (k + 1) w := by
    intro w hw hn ⟨j, j1, j2, j3⟩
    refine ⟨j, ?_, j2, j3⟩
    by_cases e : j = k
    · exfalso
      apply hn
      rw [e, e9, nI_eq (by omega) (by omega)] at j3
      exact j3.symm
    · omega
  have dif : ∀ u, u < 8 → u ≠ v → gc_pr a9 k u → bt (a7 v) u = true → ∀ c, c < 3 → a8 u = nI c → ¬ r = nI c := by
    intro u hu hn pu hb c hc e er
    rcases hr with hr | ⟨c', hc', er', hf⟩
    · rw [hr] at er
      have : ∀ c, c < 3 → ¬ (-1 : Int32) = nI c := by decide
      exact this c hc er
    · have ec : c' = c := by
        rw [er', nI_eq (by omega) (by omega)] at er
        exact er
      subst ec
      refine hf u hu ?_ e
      rw [gc_and]
      exact ⟨hb, h2 u hu (pr u hu hn pu) c' hc e⟩
  refine ⟨by omega, ?_, ?_, ?_⟩
  · intro w hw pw
    dsimp only
    by_cases e : w = v
    · rw [e, pk_us]
      rcases hr with hr | ⟨c, hc, er, _⟩
      · exact Or.inl hr
      · exact Or.inr ⟨c, hc, er⟩
    · rw [pk_un e]
      exact h1 w hw (pr w hw e pw)
  · intro w hw pw c hc ew
    dsimp only at ew ⊢
    by_cases e : w = v
    · rw [e, pk_us] at ew
      rw [e]
      exact hy2 c hc ew
    · rw [pk_un e] at ew
      exact hy w (h2 w hw (pr w hw e pw) c hc ew)
  · intro u w hu hw hn pu pw rv c hc eu ew
    dsimp only at eu ew
    by_cases e1 : u = v
    · have e2 : w ≠ v := fun z => hn (e1.trans z.symm)
      rw [e1, pk_us] at eu
      rw [pk_un e2] at ew
      refine dif w hw e2 pw ?_ c hc ew eu
      rw [← e1]
      exact rv.1
    · rw [pk_un e1] at eu
      by_cases e2 : w = v
      · rw [e2, pk_us] at ew
        refine dif u hu e1 pu ?_ c hc eu ew
        rw [← e2]
        exact rv.2
      · rw [pk_un e2] at ew
        exact h3 u w hu hw hn (pr u hu e1 pu) (pr w hw e2 pw) rv c hc eu ew
theorem gc_b8m : (-1 : Int32).toInt8.toInt32 = -1 := by decide
theorem gc_cv45 {post : St1 → Prop} {ln cm ce pl fl oc ec pc : Int32} {a1 a2 a3 a4 a5 a6 a7 a8 a9 a10 a11 a12 a13 a14 a15 a16 a17 : Nat → Int32} (h9 : ∀ j, j < 8 → ∃ v, v < 8 ∧ a9 j = nI v)
    (H : ∀ x2 b8, gc_cI a7 a9 0 (x2, b8) → post (ln, cm, ce, pl, fl, oc, ec, pc, a1, a2, a3, a4, a5, a6, a7, b8, a9, a10, a11, a12, a13, a14, a15, a16, a17)) : ∃ n, wX_colourVariables_45 post ln cm ce pl fl oc ec pc n 0 7 a1 a2 a3 a4 a5 a6 a7 a8 a9 a10 a11 a12 a13 a14 a15 a16 a17 := by
  refine ⟨9, ?_⟩
  have h7 : (7 : Int32) = nI 8 + (-1) := by decide
  rw [h7]
  refine pk_loopD (fun n k (s : Int32 × (Nat → Int32)) => wX_colourVariables_45 post ln cm ce pl fl oc ec pc n s.1 (nI k + (-1)) a1 a2 a3 a4 a5 a6 a7 s.2 a9 a10 a11 a12 a13 a14 a15 a16 a17) (gc_cI a7 a9) ?_ ?_ 8 (0, a8) ?_
  · intro n s h
    exact br_t gc_n1 (H s.1 s.2 h)
  · intro n k s h hw
    obtain ⟨x2, b8⟩ := s
    have hk := h.1
    dsimp only at hw ⊢
    have ck : (nI k).toNatClampNeg = k := gc_cl (by omega)
    obtain ⟨v, hv, e9⟩ := h9 k (by omega)
    have cv : (nI v).toNatClampNeg = v := gc_cl (by omega)
    rw [pk_m1]
    refine br_f (nI_pos (by omega)) ⟨pk_in k 8 (by omega), nm_r (e' := nI v) (by rw [ck]; exact e9) ⟨pk_in v 8 hv, ?_⟩⟩
    rw [cv]
    refine gc_freeColour ?_ ?_
    · refine ⟨pk_in v 8 hv, nm_e ⟨pk_in v 8 hv, ?_⟩⟩
      rw [pk_us, gc_b8m]
      refine br_t (by decide) (nm_e (hw (x2, upd b8 v (-1)) ?_))
      refine gc_cI_step h hv e9 (Or.inl rfl) (fun w z => z) (fun c hc ec => ?_)
      have : ∀ c, c < 3 → ¬ (-1 : Int32) = nI c := by decide
      exact absurd ec (this c hc)
    · intro c hc hf
      refine ⟨pk_in v 8 hv, nm_e ⟨pk_in v 8 hv, ?_⟩⟩
      rw [pk_us, gc_b8 c (by omega)]
      refine br_f (nI_pos (by omega)) (nm_e (nm_e (hw (x2 ||| ((1 : Int32) <<< (nI v &&& 31)), upd b8 v (nI c)) ?_)))
      refine gc_cI_step h hv e9 (Or.inr ⟨c, hc, rfl, hf⟩) (fun w z => ?_) (fun c hc ec => ?_)
      · rw [gc_or]
        exact Or.inl z
      · rw [gc_or, gc_one (by omega)]
        exact Or.inr rfl
  · refine ⟨Nat.le_refl 8, ?_, ?_, ?_⟩
    · intro v _ ⟨j, j1, j2, _⟩
      omega
    · intro v _ ⟨j, j1, j2, _⟩
      omega
    · intro u v _ _ _ ⟨j, j1, j2, _⟩
      omega
theorem gc_colourVariables {post : St1 → Prop} {ln cm ce pl fl oc ec pc : Int32} {a1 a2 a3 a4 a5 a6 a7 a8 a9 a10 a11 a12 a13 a14 a15 a16 a17 : Nat → Int32}
    (H : ∀ b8 b9 K, gc_K K b8 → (∀ u v, u < 8 → v < 8 → u ≠ v → gc_rv a7 u v → K u < 3 → K u ≠ K v) → post (ln, cm, ce, pl, fl, oc, ec, pc, a1, a2, a3, a4, a5, a6, a7, b8, b9, a10, a11, a12, a13, a14, a15, a16, a17)) : wpX_colourVariables post (ln, cm, ce, pl, fl, oc, ec, pc, a1, a2, a3, a4, a5, a6, a7, a8, a9, a10, a11, a12, a13, a14, a15, a16, a17) := by
  refine pk_loop (fun n k (s : Int32 × (Nat → Int32)) => wX_colourVariables_6 post ln cm ce pl fl oc ec pc n s.1 (nI k) a1 a2 a3 a4 a5 a6 a7 a8 s.2 a10 a11 a12 a13 a14 a15 a16 a17) (fun k s => gc_pc s.1 + k = 8 ∧ (∀ j, j < k → ∃ v, v < 8 ∧ s.2 j = nI v) ∧ (∀ v, v < 8 → bt s.1 v = true ∨ ∃ j, j < k ∧ s.2 j = nI v)) 8 0 (255, a9) (by omega) ?_ ?_ ?_
  · refine ⟨show gc_pc 255 + 0 = 8 by decide, fun j hj => absurd hj (by omega), fun v hv => Or.inl ?_⟩
    dsimp only
    rw [b_255]
    exact decide_eq_true hv
  · intro n s h
    obtain ⟨x1, b9⟩ := s
    obtain ⟨h1, h2, h3⟩ := h
    dsimp only at h1 h2 h3 ⊢
    refine pk_le 8 8 (fun _ => ?_) (fun z => absurd z (by omega))
    refine gc_cv45 h2 (fun x2 b8 hc => ?_)
    obtain ⟨c0, c1, c2, c3⟩ := hc
    dsimp only at c1 c2 c3
    have pr : ∀ v, v < 8 → gc_pr b9 0 v := by
      intro v hv
      rcases h3 v hv with z | ⟨j, hj, e⟩
      · rw [gc_pc_zero (by omega) hv] at z
        cases z
      · exact ⟨j, by omega, hj, e⟩
    have hK : gc_K (fun v => if b8 v = -1 then 3 else (b8 v).toNatClampNeg) b8 := by
      intro v hv
      dsimp only
      rcases c1 v hv (pr v hv) with e | ⟨c, hc, e⟩
      · rw [if_pos e]
        exact ⟨by omega, fun z => absurd z (by omega), fun _ => e⟩
      · have : ∀ c, c < 3 → ¬ nI c = (-1 : Int32) := by decide
        rw [e, if_neg (this c hc), gc_cl (by omega)]
        exact ⟨by omega, fun _ => rfl, fun z => absurd z (by omega)⟩
    generalize (fun v => if b8 v = -1 then 3 else (b8 v).toNatClampNeg) = K at hK
    refine H b8 b9 K hK ?_
    intro u v hu hv hn rv h3 he
    have ku := (hK u hu).2.1 h3
    have kv := (hK v hv).2.1 (by rw [← he]; exact h3)
    rw [← he] at kv
    exact c3 u v hu hv hn (pr u hu) (pr v hv) rv _ h3 ku kv
  · intro n k s hk h hw
    obtain ⟨x1, b9⟩ := s
    obtain ⟨h1, h2, h3⟩ := h
    dsimp only at h1 h2 h3 hw ⊢
    have ck : (nI k).toNatClampNeg = k := gc_cl (by omega)
    refine pk_le 8 k (fun z => absurd z (by omega)) (fun _ => gc_easiest (gc_pc_pos (by omega)) (fun v hv hb => ⟨pk_in k 8 hk, nm_r (e' := upd b9 k (nI v)) (by rw [ck, gc_b8 v (by omega)]) (nm_e (nm_r (nI_1 k) (hw (x1 &&& (((1 : Int32) <<< (nI v &&& 31)) ^^^ (-1)), upd b9 k (nI v)) ?_)))⟩))
    dsimp only
    have hy : ∀ j, j < 8 → (bt (x1 &&& (((1 : Int32) <<< (nI v &&& 31)) ^^^ (-1))) j = true ↔ bt x1 j = true ∧ j ≠ v) := by
      intro j hj
      rw [gc_and, gc_not _ (by omega), gc_one (by omega)]
    have hd := gc_pc_drop hv hb hy
    refine ⟨by omega, ?_, ?_⟩
    · intro j hj
      by_cases e : j = k
      · rw [e, pk_us]
        exact ⟨v, hv, rfl⟩
      · rw [pk_un e]
        exact h2 j (by omega)
    · intro w hw2
      by_cases e : w = v
      · refine Or.inr ⟨k, by omega, ?_⟩
        rw [pk_us, e]
      · rcases h3 w hw2 with z | ⟨j, hj, ej⟩
        · exact Or.inl ((hy w hw2).mpr ⟨z, e⟩)
        · refine Or.inr ⟨j, by omega, ?_⟩
          rw [pk_un (by omega)]
          exact ej
end
section
/-! target code: the pure picture -/
abbrev gc_I : Type := Int32 × Int32 × Int32 × Int32
def gc_CL (b10 b11 b12 b13 : Nat → Int32) : Nat → List gc_I → Prop
  | _, [] => True
  | p, x :: l => (b10 p = x.1 ∧ b11 p = x.2.1 ∧ b12 p = x.2.2.1 ∧ b13 p = x.2.2.2) ∧ gc_CL b10 b11 b12 b13 (p + 1) l
def gc_ext (p : Nat) (l : List gc_I) (a10 a11 a12 a13 b10 b11 b12 b13 : Nat → Int32) : Prop :=
  (∀ k, k < p → b10 k = a10 k ∧ b11 k = a11 k ∧ b12 k = a12 k ∧ b13 k = a13 k) ∧ gc_CL b10 b11 b12 b13 p l
theorem gc_CL_cong {a10 a11 a12 a13 b10 b11 b12 b13 : Nat → Int32} : ∀ (l : List gc_I) (p : Nat), (∀ k, k < p + l.length → b10 k = a10 k ∧ b11 k = a11 k ∧ b12 k = a12 k ∧ b13 k = a13 k) → gc_CL a10 a11 a12 a13 p l → gc_CL b10 b11 b12 b13 p l := by
  intro l
  induction l with
  | nil => intro p _ _; trivial
  | cons x l ih =>
    intro p h k
    obtain ⟨⟨k1, k2, k3, k4⟩, k5⟩ := k
    have hl : (x :: l).length = l.length + 1 := rfl
    obtain ⟨e1, e2, e3, e4⟩ := h p (by omega)
    exact ⟨⟨e1.trans k1, e2.trans k2, e3.trans k3, e4.trans k4⟩, ih (p + 1) (fun k hk => h k (by omega)) k5⟩
theorem gc_CL_app {b10 b11 b12 b13 : Nat → Int32} {m : List gc_I} : ∀ (l : List gc_I) (p : Nat), gc_CL b10 b11 b12 b13 p l → gc_CL b10 b11 b12 b13 (p + l.length) m → gc_CL b10 b11 b12 b13 p (l ++ m) := by
  intro l
  induction l with
  | nil => intro p _ h; exact h
  | cons x l ih =>
    intro p h k
    refine ⟨h.1, ih (p + 1) h.2 ?_⟩
    have hl : (x :: l).length = l.length + 1 := rfl
    rw [show p + 1 + l.length = p + (x :: l).length by omega]
    exact k
theorem gc_CL_spl {b10 b11 b12 b13 : Nat → Int32} {m : List gc_I} : ∀ (l : List gc_I) (p : Nat), gc_CL b10 b11 b12 b13 p (l ++ m) → gc_CL b10 b11 b12 b13 p l ∧ gc_CL b10 b11 b12 b13 (p + l.length) m := by
  intro l
  induction l with
  | nil => intro p h; exact ⟨trivial, h⟩
  | cons x l ih =>
    intro p h
    obtain ⟨h1, h2⟩ := ih (p + 1) h.2
    have hl : (x :: l).length = l.length + 1 := rfl
    rw [show p + 1 + l.length = p + (x :: l).length by omega] at h2
    exact ⟨⟨h.1, h1⟩, h2⟩
theorem gc_ext_nil {p : Nat} {a10 a11 a12 a13 : Nat → Int32} : gc_ext p [] a10 a11 a12 a13 a10 a11 a12 a13 := ⟨fun _ _ => ⟨rfl, rfl, rfl, rfl⟩, trivial⟩
theorem gc_ext_app {p q : Nat} {l m : List gc_I} {a10 a11 a12 a13 b10 b11 b12 b13 c10 c11 c12 c13 : Nat → Int32} (h : gc_ext p l a10 a11 a12 a13 b10 b11 b12 b13) (hq : q = p + l.length) (k : gc_ext q m b10 b11 b12 b13 c10 c11 c12 c13) : gc_ext p (l ++ m) a10 a11 a12 a13 c10 c11 c12 c13 := by
  subst hq
  refine ⟨fun j hj => ?_, gc_CL_app l p (gc_CL_cong l p k.1 h.2) k.2⟩
  obtain ⟨e1, e2, e3, e4⟩ := h.1 j hj
  obtain ⟨f1, f2, f3, f4⟩ := k.1 j (by omega)
  exact ⟨f1.trans e1, f2.trans e2, f3.trans e3, f4.trans e4⟩
def gc_fl (K : Nat → Nat) (v s : Nat) : List gc_I := if K v < 3 then [] else [(12, nI s, nI v, 0)]
def gc_fr (K : Nat → Nat) (v s : Nat) : Nat := if K v < 3 then K v else s
def gc_to (K : Nat → Nat) (a : Nat) : Nat := if K a < 3 then K a else 5
def gc_kp (K : Nat → Nat) (a : Nat) : List gc_I := if K a < 3 then [] else [(13, nI 5, nI a, 0)]
def gc_mv (K : Nat → Nat) (a b : Nat) : List gc_I := if gc_fr K b 3 = gc_to K a then [] else [(1, nI (gc_to K a), nI (gc_fr K b 3), 0)]
def gc_co (K : Nat → Nat) (o a b c : Nat) (xb : Int32) : List gc_I :=
  if o = 0 then [(0, nI (gc_to K a), xb, 0)]
  else if o = 1 then gc_fl K b 3 ++ gc_mv K a b
  else gc_fl K b 3 ++ (gc_fl K c 4 ++ [(nI o, nI (gc_to K a), nI (gc_fr K b 3), nI (gc_fr K c 4))])
def gc_as (K : Nat → Nat) (o a b c : Nat) (xb : Int32) : List gc_I := gc_co K o a b c xb ++ gc_kp K a
def gc_ot (K : Nat → Nat) (o a b c : Nat) : gc_I := if o = 6 then (6, nI (gc_fr K a 3), 0, 0) else if o = 8 then (8, nI (gc_fr K a 3), nI b, 0) else (9, nI (gc_fr K a 3), nI b, nI c)
def gc_blk (K : Nat → Nat) (o a b c : Nat) (xb : Int32) (lv : Bool) : List gc_I :=
  if o ≤ 5 then (if lv = true then gc_as K o a b c xb else [])
  else if o = 7 then [(7, 0, nI a, 0)]
  else if o = 10 then [(10, 0, 0, 0)]
  else gc_fl K a 3 ++ [gc_ot K o a b c]
theorem gc_fl_le (K : Nat → Nat) (v s : Nat) : (gc_fl K v s).length ≤ 1 := by unfold gc_fl; split <;> simp
theorem gc_kp_le (K : Nat → Nat) (v : Nat) : (gc_kp K v).length ≤ 1 := by unfold gc_kp; split <;> simp
theorem gc_mv_le (K : Nat → Nat) (a b : Nat) : (gc_mv K a b).length ≤ 1 := by unfold gc_mv; split <;> simp
theorem gc_co_le (K : Nat → Nat) (o a b c : Nat) (xb : Int32) : (gc_co K o a b c xb).length ≤ 3 := by
  have h1 := gc_fl_le K b 3
  have h2 := gc_fl_le K c 4
  have h3 := gc_mv_le K a b
  unfold gc_co
  split
  · simp
  · split
    · rw [List.length_append]; omega
    · rw [List.length_append, List.length_append, List.length_singleton]; omega
theorem gc_as_le (K : Nat → Nat) (o a b c : Nat) (xb : Int32) : (gc_as K o a b c xb).length ≤ 4 := by
  have h1 := gc_co_le K o a b c xb
  have h2 := gc_kp_le K a
  unfold gc_as
  rw [List.length_append]
  omega
theorem gc_blk_le (K : Nat → Nat) (o a b c : Nat) (xb : Int32) (lv : Bool) : (gc_blk K o a b c xb lv).length ≤ 4 := by
  have h1 := gc_as_le K o a b c xb
  have h2 := gc_fl_le K a 3
  unfold gc_blk
  split
  · split
    · exact h1
    · simp
  · split
    · simp
    · split
      · simp
      · rw [List.length_append, List.length_singleton]; omega
theorem gc_fr_lt {K : Nat → Nat} {v s : Nat} (h : s < 6) : gc_fr K v s < 6 := by unfold gc_fr; split <;> omega
theorem gc_to_lt {K : Nat → Nat} {v : Nat} : gc_to K v < 6 := by unfold gc_to; split <;> omega
/-! the walks -/
theorem gc_write {post : St1 → Prop} {ln cm pl fl oc ec pc : Int32} {a1 a2 a3 a4 a5 a6 a7 a8 a9 a10 a11 a12 a13 a14 a15 a16 a17 : Nat → Int32} {p : Nat} {x0 x1 x2 x3 : Int32} (hp : p < 224) (h0 : x0.toInt8.toInt32 = x0) (h1 : x1.toInt8.toInt32 = x1)
    (H : ∀ b10 b11 b12 b13, gc_ext p [(x0, x1, x2, x3)] a10 a11 a12 a13 b10 b11 b12 b13 → post (ln, cm, nI (p + 1), pl, fl, oc, ec, pc, a1, a2, a3, a4, a5, a6, a7, a8, a9, b10, b11, b12, b13, a14, a15, a16, a17)) :
    wpX_write post (ln, cm, nI p, pl, fl, oc, ec, pc, a1, a2, a3, a4, a5, a6, a7, a8, a9, a10, a11, a12, a13, a14, a15, a16, a17) x0 x1 x2 x3 := by
  have cp : (nI p).toNatClampNeg = p := gc_cl (by omega)
  refine ⟨pk_in p 224 hp, nm_e ⟨pk_in p 224 hp, nm_e ⟨pk_in p 224 hp, nm_e ⟨pk_in p 224 hp, nm_e (nm_r (nI_1 p) ?_)⟩⟩⟩⟩
  rw [cp, h0, h1]
  refine H _ _ _ _ ⟨fun k hk => ⟨pk_un (by omega), pk_un (by omega), pk_un (by omega), pk_un (by omega)⟩, ⟨pk_us, pk_us, pk_us, pk_us⟩, trivial⟩
theorem gc_fetched {post : Int32 → St1 → Prop} {ln cm pl fl oc ec pc : Int32} {a1 a2 a3 a4 a5 a6 a7 a8 a9 a10 a11 a12 a13 a14 a15 a16 a17 : Nat → Int32} {K : Nat → Nat} {p v s : Nat} (hK : gc_K K a8) (hv : v < 8) (hs : s < 128) (hp : p < 224)
    (H : ∀ b10 b11 b12 b13, gc_ext p (gc_fl K v s) a10 a11 a12 a13 b10 b11 b12 b13 → post (nI (gc_fr K v s)) (ln, cm, nI (p + (gc_fl K v s).length), pl, fl, oc, ec, pc, a1, a2, a3, a4, a5, a6, a7, a8, a9, b10, b11, b12, b13, a14, a15, a16, a17)) :
    wpX_fetched post (ln, cm, nI p, pl, fl, oc, ec, pc, a1, a2, a3, a4, a5, a6, a7, a8, a9, a10, a11, a12, a13, a14, a15, a16, a17) (nI v) (nI s) := by
  have cv : (nI v).toNatClampNeg = v := gc_cl (by omega)
  obtain ⟨k0, k1, k2⟩ := hK v hv
  refine ⟨pk_in v 8 hv, ?_⟩
  rw [cv]
  by_cases e : K v < 3
  · have e1 : gc_fl K v s = [] := if_pos e
    have e2 : gc_fr K v s = K v := if_pos e
    have h := H a10 a11 a12 a13 (by rw [e1]; exact gc_ext_nil)
    rw [e1, e2] at h
    rw [k1 e]
    exact br_f (nI_pos (by omega)) ⟨pk_in v 8 hv, h⟩
  · have e1 : gc_fl K v s = [(12, nI s, nI v, 0)] := if_neg e
    have e2 : gc_fr K v s = s := if_neg e
    rw [k2 (by omega)]
    refine br_t (by decide) (gc_write hp (by decide) (gc_b8 s hs) (fun b10 b11 b12 b13 hb => ?_))
    have h := H b10 b11 b12 b13 (by rw [e1]; exact hb)
    rw [e1, e2] at h
    exact h
theorem gc_ca131 {post : St1 → Prop} {ln cm pl fl oc ec pc : Int32} {a1 a2 a3 a4 a5 a6 a7 a8 a9 a10 a11 a12 a13 a14 a15 a16 a17 : Nat → Int32} {K : Nat → Nat} {p a : Nat} (hK : gc_K K a8) (ha : a < 8) (hp : p < 224)
    (H : ∀ b10 b11 b12 b13, gc_ext p (gc_kp K a) a10 a11 a12 a13 b10 b11 b12 b13 → post (ln, cm, nI (p + (gc_kp K a).length), pl, fl, oc, ec, pc, a1, a2, a3, a4, a5, a6, a7, a8, a9, b10, b11, b12, b13, a14, a15, a16, a17)) :
    wX_compileAssignment_131 post (nI a) (nI (gc_to K a)) ln cm (nI p) pl fl oc ec pc a1 a2 a3 a4 a5 a6 a7 a8 a9 a10 a11 a12 a13 a14 a15 a16 a17 := by
  have cv : (nI a).toNatClampNeg = a := gc_cl (by omega)
  obtain ⟨k0, k1, k2⟩ := hK a ha
  refine ⟨pk_in a 8 ha, ?_⟩
  rw [cv]
  by_cases e : K a < 3
  · have e1 : gc_kp K a = [] := if_pos e
    have h := H a10 a11 a12 a13 (by rw [e1]; exact gc_ext_nil)
    rw [e1] at h
    rw [k1 e]
    exact br_t (nI_pos' (by omega)) h
  · have e1 : gc_kp K a = [(13, nI 5, nI a, 0)] := if_neg e
    have e2 : gc_to K a = 5 := if_neg e
    rw [k2 (by omega), e2]
    refine br_f (by decide) (gc_write hp (by decide) (by decide) (fun b10 b11 b12 b13 hb => ?_))
    have h := H b10 b11 b12 b13 (by rw [e1]; exact hb)
    rw [e1] at h
    exact h
theorem gc_ca46 {post : St1 → Prop} {ln cm pl fl oc ec pc : Int32} {a1 a2 a3 a4 a5 a6 a7 a8 a9 a10 a11 a12 a13 a14 a15 a16 a17 : Nat → Int32} {K : Nat → Nat} {p i o a b c : Nat} (hK : gc_K K a8) (hi : i < 32) (ho : gc_ok o a b c (a1 i) (a2 i) (a3 i) (a4 i)) (ho5 : o ≤ 5) (hp : p < 219)
    (H : ∀ b10 b11 b12 b13, gc_ext p (gc_as K o a b c (a3 i)) a10 a11 a12 a13 b10 b11 b12 b13 → post (ln, cm, nI (p + (gc_as K o a b c (a3 i)).length), pl, fl, oc, ec, pc, a1, a2, a3, a4, a5, a6, a7, a8, a9, b10, b11, b12, b13, a14, a15, a16, a17)) :
    wX_compileAssignment_46 post (nI i) (nI o) (nI a) (nI (gc_to K a)) ln cm (nI p) pl fl oc ec pc a1 a2 a3 a4 a5 a6 a7 a8 a9 a10 a11 a12 a13 a14 a15 a16 a17 := by
  have ci : (nI i).toNatClampNeg = i := gc_cl (by omega)
  obtain ⟨h1, h2, h3, h4, h5, h6, h7, h8, h9⟩ := ho
  have ha := h5 (by omega) (by omega)
  have tl : gc_to K a < 6 := gc_to_lt
  refine pk_eq o 0 (fun e => ⟨pk_in i 32 hi, ?_⟩) (fun e => ⟨pk_in i 32 hi, ?_⟩)
  · rw [ci]
    refine gc_write (by omega) (by decide) (gc_b8 _ (by omega)) (fun b10 b11 b12 b13 hb => ?_)
    refine gc_ca131 hK (by omega) (by omega) (fun c10 c11 c12 c13 hc => ?_)
    have e1 : gc_co K o a b c (a3 i) = [(0, nI (gc_to K a), a3 i, 0)] := if_pos e
    have h := H c10 c11 c12 c13 (by unfold gc_as; rw [e1]; exact gc_ext_app hb rfl hc)
    rw [show p + (gc_as K o a b c (a3 i)).length = p + 1 + (gc_kp K a).length by unfold gc_as; rw [e1, List.length_append, List.length_singleton]; omega] at h
    exact h
  · obtain ⟨hb1, hb2⟩ := h6 (by omega) (by omega)
    rw [ci, hb1]
    have l1 := gc_fl_le K b 3
    refine gc_fetched (s := 3) hK (by omega) (by omega) (by omega) (fun b10 b11 b12 b13 hb => ?_)
    have fl := gc_fr_lt (K := K) (v := b) (s := 3) (by omega)
    refine pk_eq o 1 (fun e1 => ?_) (fun e1 => ⟨pk_in i 32 hi, ?_⟩)
    · have co : gc_co K o a b c (a3 i) = gc_fl K b 3 ++ gc_mv K a b := by unfold gc_co; rw [if_neg e, if_pos e1]
      refine pk_eq (gc_fr K b 3) (gc_to K a) (fun e2 => ?_) (fun e2 => ?_)
      · have mv : gc_mv K a b = [] := if_pos e2
        refine gc_ca131 hK (by omega) (by omega) (fun c10 c11 c12 c13 hc => ?_)
        have h := H c10 c11 c12 c13 (by unfold gc_as; rw [co, mv, List.append_nil]; exact gc_ext_app hb rfl hc)
        rw [show p + (gc_as K o a b c (a3 i)).length = p + (gc_fl K b 3).length + (gc_kp K a).length by unfold gc_as; rw [co, mv, List.append_nil, List.length_append]; omega] at h
        exact h
      · have mv : gc_mv K a b = [(1, nI (gc_to K a), nI (gc_fr K b 3), 0)] := if_neg e2
        refine gc_write (by omega) (by decide) (gc_b8 _ (by omega)) (fun d10 d11 d12 d13 hd => ?_)
        refine gc_ca131 hK (by omega) (by omega) (fun c10 c11 c12 c13 hc => ?_)
        have h := H c10 c11 c12 c13 (by unfold gc_as; rw [co, mv]; exact gc_ext_app (gc_ext_app hb rfl hd) (by rw [List.length_append, List.length_singleton]; omega) hc)
        rw [show p + (gc_as K o a b c (a3 i)).length = p + (gc_fl K b 3).length + 1 + (gc_kp K a).length by unfold gc_as; rw [co, mv, List.length_append, List.length_append, List.length_singleton]; omega] at h
        exact h
    · obtain ⟨hc1, hc2⟩ := h7 (by omega) (by omega)
      rw [hc1]
      have l2 := gc_fl_le K c 4
      have co : gc_co K o a b c (a3 i) = gc_fl K b 3 ++ (gc_fl K c 4 ++ [(nI o, nI (gc_to K a), nI (gc_fr K b 3), nI (gc_fr K c 4))]) := by unfold gc_co; rw [if_neg e, if_neg e1]
      refine gc_fetched (s := 4) hK (by omega) (by omega) (by omega) (fun d10 d11 d12 d13 hd => ?_)
      refine gc_write (by omega) (gc_b8 _ (by omega)) (gc_b8 _ (by omega)) (fun e10 e11 e12 e13 he => ?_)
      refine gc_ca131 hK (by omega) (by omega) (fun c10 c11 c12 c13 hc => ?_)
      have h := H c10 c11 c12 c13 (by unfold gc_as; rw [co]; exact gc_ext_app (gc_ext_app hb rfl (gc_ext_app hd rfl he)) (by rw [List.length_append, List.length_append, List.length_singleton]; omega) hc)
      rw [show p + (gc_as K o a b c (a3 i)).length = p + (gc_fl K b 3).length + (gc_fl K c 4).length + 1 + (gc_kp K a).length by unfold gc_as; rw [co, List.length_append, List.length_append, List.length_append, List.length_singleton]; omega] at h
      exact h
theorem gc_cAsg {post : St1 → Prop} {cm pl fl oc ec pc : Int32} {a1 a2 a3 a4 a5 a6 a7 a8 a9 a10 a11 a12 a13 a14 a15 a16 a17 : Nat → Int32} {K : Nat → Nat} {l p i o a b c : Nat} {lv : Bool} (hl : l ≤ 32) (hK : gc_K K a8) (hi : i < l) (ho : gc_ok o a b c (a1 i) (a2 i) (a3 i) (a4 i)) (ho5 : o ≤ 5) (hp : p < 219)
    (hlv : lv = true ↔ gc_aft l o a b c a6 i a)
    (H : ∀ b10 b11 b12 b13, gc_ext p (if lv = true then gc_as K o a b c (a3 i) else []) a10 a11 a12 a13 b10 b11 b12 b13 → post (nI l, cm, nI (p + (if lv = true then gc_as K o a b c (a3 i) else []).length), pl, fl, oc, ec, pc, a1, a2, a3, a4, a5, a6, a7, a8, a9, b10, b11, b12, b13, a14, a15, a16, a17)) :
    wpX_compileAssignment post (nI l, cm, nI p, pl, fl, oc, ec, pc, a1, a2, a3, a4, a5, a6, a7, a8, a9, a10, a11, a12, a13, a14, a15, a16, a17) (nI i) := by
  have ci : (nI i).toNatClampNeg = i := gc_cl (by omega)
  have ho' := ho
  obtain ⟨h1, h2, h3, h4, h5, h6, h7, h8, h9⟩ := ho
  have ha := h5 (by omega) (by omega)
  have ca : (nI a).toNatClampNeg = a := gc_cl (by omega)
  refine ⟨pk_in i 32 (by omega), nm_r (e' := nI o) (by rw [ci]; exact h1) ⟨pk_in i 32 (by omega), nm_r (e' := nI a) (by rw [ci]; exact h3 (by omega)) ?_⟩⟩
  refine gc_liveAfter hl hi ho' (fun r hr => gc_tstB (by omega) (fun e => ?_) (fun e => ⟨pk_in a 8 (by omega), ?_⟩))
  · have el : ¬ lv = true := by
      rw [hlv, ← hr, e]
      decide
    rw [if_neg el] at H
    exact H a10 a11 a12 a13 gc_ext_nil
  · have el : lv = true := by
      rw [hlv, ← hr, e]
    rw [if_pos el] at H
    rw [ca]
    obtain ⟨k0, k1, k2⟩ := hK a (by omega)
    by_cases ek : K a < 3
    · have et : gc_to K a = K a := if_pos ek
      rw [k1 ek, ← et]
      exact br_f (nI_pos (by rw [et]; omega)) ⟨pk_in a 8 (by omega), gc_ca46 hK (by omega) ho' ho5 hp H⟩
    · have et : gc_to K a = 5 := if_neg ek
      rw [k2 (by omega)]
      have := gc_ca46 (post := post) (cm := cm) (pl := pl) (fl := fl) (oc := oc) (ec := ec) (pc := pc) (ln := nI l) (a5 := a5) (a6 := a6) (a7 := a7) (a9 := a9) (a10 := a10) (a11 := a11) (a12 := a12) (a13 := a13) (a14 := a14) (a15 := a15) (a16 := a16) (a17 := a17) hK (by omega) ho' ho5 hp H
      rw [et] at this
      exact br_t (by decide) this
theorem gc_cOne {post : St1 → Prop} {cm pl fl oc ec pc : Int32} {a1 a2 a3 a4 a5 a6 a7 a8 a9 a10 a11 a12 a13 a14 a15 a16 a17 : Nat → Int32} {K : Nat → Nat} {l p i o a b c : Nat} {lv : Bool} (hl : l ≤ 32) (hK : gc_K K a8) (hi : i < l) (ho : gc_ok o a b c (a1 i) (a2 i) (a3 i) (a4 i)) (hp : p < 219)
    (hlv : lv = true ↔ gc_aft l o a b c a6 i a)
    (H : ∀ b10 b11 b12 b13, gc_ext p (gc_blk K o a b c (a3 i) lv) a10 a11 a12 a13 b10 b11 b12 b13 → post (nI l, cm, nI (p + (gc_blk K o a b c (a3 i) lv).length), pl, fl, oc, ec, pc, a1, a2, a3, a4, a5, a6, a7, a8, a9, b10, b11, b12, b13, a14, a15, a16, a17)) :
    wpX_compileOne post (nI l, cm, nI p, pl, fl, oc, ec, pc, a1, a2, a3, a4, a5, a6, a7, a8, a9, a10, a11, a12, a13, a14, a15, a16, a17) (nI i) := by
  have ci : (nI i).toNatClampNeg = i := gc_cl (by omega)
  have ho' := ho
  obtain ⟨h1, h2, h3, h4, h5, h6, h7, h8, h9⟩ := ho
  refine ⟨pk_in i 32 (by omega), nm_r (e' := nI o) (by rw [ci]; exact h1) ⟨pk_in i 32 (by omega), ?_⟩⟩
  refine fun x3 ex => pk_lt 5 o (fun e5 => ?_) (fun e5 => ?_)
  · refine pk_eq o 7 (fun e7 => ?_) (fun e7 => pk_eq o 10 (fun e10 => ?_) (fun e10 => ?_))
    · have eb : gc_blk K o a b c (a3 i) lv = [(7, 0, nI a, 0)] := by unfold gc_blk; rw [if_neg (by omega), if_pos e7]
      rw [eb] at H
      rw [ex, ci, h3 (by omega)]
      exact gc_write (by omega) (by decide) (by decide) H
    · have eb : gc_blk K o a b c (a3 i) lv = [(10, 0, 0, 0)] := by unfold gc_blk; rw [if_neg (by omega), if_neg e7, if_pos e10]
      rw [eb] at H
      exact gc_write (by omega) (by decide) (by decide) H
    · have eb : gc_blk K o a b c (a3 i) lv = gc_fl K a 3 ++ [gc_ot K o a b c] := by unfold gc_blk; rw [if_neg (by omega), if_neg e7, if_neg e10]
      rw [eb, List.length_append, List.length_singleton, ← Nat.add_assoc] at H
      have ha := h5 e7 e10
      have l1 := gc_fl_le K a 3
      have fl := gc_fr_lt (K := K) (v := a) (s := 3) (by omega)
      rw [ex, ci, h3 (by omega)]
      refine gc_fetched (s := 3) hK (by omega) (by omega) (by omega) (fun b10 b11 b12 b13 hb => ?_)
      refine pk_eq o 6 (fun e6 => ?_) (fun e6 => pk_eq o 8 (fun e8 => ⟨pk_in i 32 (by omega), ?_⟩) (fun e8 => ⟨pk_in i 32 (by omega), pk_in i 32 (by omega), ?_⟩))
      · have eo : gc_ot K o a b c = (6, nI (gc_fr K a 3), 0, 0) := by unfold gc_ot; rw [if_pos e6]
        rw [eo] at H
        exact gc_write (by omega) (by decide) (gc_b8 _ (by omega)) (fun c10 c11 c12 c13 hc => H c10 c11 c12 c13 (gc_ext_app hb rfl hc))
      · have eo : gc_ot K o a b c = (8, nI (gc_fr K a 3), nI b, 0) := by unfold gc_ot; rw [if_neg e6, if_pos e8]
        rw [eo] at H
        rw [(h8 (by omega) (by omega)).1]
        exact gc_write (by omega) (by decide) (gc_b8 _ (by omega)) (fun c10 c11 c12 c13 hc => H c10 c11 c12 c13 (gc_ext_app hb rfl hc))
      · have eo : gc_ot K o a b c = (9, nI (gc_fr K a 3), nI b, nI c) := by unfold gc_ot; rw [if_neg e6, if_neg e8]
        rw [eo] at H
        rw [(h8 (by omega) (by omega)).1, (h9 (by omega)).1]
        exact gc_write (by omega) (by decide) (gc_b8 _ (by omega)) (fun c10 c11 c12 c13 hc => H c10 c11 c12 c13 (gc_ext_app hb rfl hc))
  · have eb : gc_blk K o a b c (a3 i) lv = (if lv = true then gc_as K o a b c (a3 i) else []) := by unfold gc_blk; rw [if_pos e5]
    rw [eb] at H
    exact gc_cAsg hl hK hi ho' e5 hp hlv H
/-! compile -/
def gc_E (bl : Nat → List gc_I) : Nat → Nat
  | 0 => 0
  | n + 1 => gc_E bl n + 1 + (bl n).length
theorem gc_E_le {bl : Nat → List gc_I} (h : ∀ j, (bl j).length ≤ 4) : ∀ n, gc_E bl n ≤ 5 * n := by
  intro n
  induction n with
  | zero => exact Nat.le_refl 0
  | succ n ih =>
    have := h n
    show gc_E bl n + 1 + (bl n).length ≤ 5 * (n + 1)
    omega
theorem gc_E_mono (bl : Nat → List gc_I) {i : Nat} : ∀ n, i ≤ n → gc_E bl i ≤ gc_E bl n := by
  intro n
  induction n with
  | zero => intro h; rw [Nat.le_zero.mp h]; exact Nat.le_refl _
  | succ n ih =>
    intro h
    by_cases e : i = n + 1
    · rw [e]; exact Nat.le_refl _
    · have := ih (by omega)
      show gc_E bl i ≤ gc_E bl n + 1 + (bl n).length
      omega
def gc_code (l : Nat) (bl : Nat → List gc_I) (a10 a11 a12 a13 a14 : Nat → Int32) : Prop :=
  (∀ i, i < l → gc_CL a10 a11 a12 a13 (gc_E bl i) ((11, 0, 0, 0) :: bl i)) ∧ gc_CL a10 a11 a12 a13 (gc_E bl l) [(10, 0, 0, 0)] ∧ (∀ j, j < 36 → a14 j = nI (gc_E bl (min j l)))
theorem gc_c76 {post : St1 → Prop} {cm pl fl oc ec pc : Int32} {a1 a2 a3 a4 a5 a6 a7 a8 a9 a10 a11 a12 a13 a14 a15 a16 a17 : Nat → Int32} {l : Nat} {bl : Nat → List gc_I} (hl : l ≤ 32) (hbl : ∀ j, (bl j).length ≤ 4)
    (h1 : ∀ i, i < l → gc_CL a10 a11 a12 a13 (gc_E bl i) ((11, 0, 0, 0) :: bl i)) (h2 : ∀ j, j < l → a14 j = nI (gc_E bl (min j l)))
    (H : ∀ b10 b11 b12 b13 b14, gc_code l bl b10 b11 b12 b13 b14 → post (nI l, cm, nI (gc_E bl l + 1), pl, fl, oc, ec, pc, a1, a2, a3, a4, a5, a6, a7, a8, a9, b10, b11, b12, b13, b14, a15, a16, a17)) :
    ∃ n, wX_compile_76 post (nI l) cm (nI (gc_E bl l)) pl fl oc ec pc n (nI l) a1 a2 a3 a4 a5 a6 a7 a8 a9 a10 a11 a12 a13 a14 a15 a16 a17 := by
  have hE := gc_E_le hbl l
  refine pk_loop (fun n k s => wX_compile_76 post (nI l) cm (nI (gc_E bl l)) pl fl oc ec pc n (nI k) a1 a2 a3 a4 a5 a6 a7 a8 a9 a10 a11 a12 a13 s a15 a16 a17) (fun k s => l ≤ k ∧ ∀ j, j < k → s j = nI (gc_E bl (min j l))) 36 l a14 (by omega) ⟨Nat.le_refl l, h2⟩ ?_ ?_
  · intro n s h
    refine pk_le 36 36 (fun _ => ?_) (fun z => absurd z (by omega))
    refine gc_write (by omega) (by decide) (by decide) (fun b10 b11 b12 b13 hb => H b10 b11 b12 b13 s ⟨?_, hb.2, h.2⟩)
    intro i hi
    refine gc_CL_cong _ _ (fun k hk => hb.1 k ?_) (h1 i hi)
    have m := gc_E_mono bl l (i := i + 1) (by omega)
    have e : gc_E bl (i + 1) = gc_E bl i + 1 + (bl i).length := rfl
    rw [List.length_cons] at hk
    omega
  · intro n k s hk h hw
    refine pk_le 36 k (fun z => absurd z (by omega)) (fun _ => ⟨pk_in k 36 hk, nm_e (nm_r (nI_1 k) (hw _ ⟨by omega, ?_⟩))⟩)
    rw [gc_cl (by omega), gc_s16 _ (by omega)]
    intro j hj
    by_cases e : j = k
    · rw [e, pk_us, show min k l = l by omega]
    · rw [pk_un e]
      exact h.2 j (by omega)
def gc_cC (bl : Nat → List gc_I) (k : Nat) (s : (Nat → Int32) × (Nat → Int32) × (Nat → Int32) × (Nat → Int32) × (Nat → Int32)) : Prop :=
  (∀ i, i < k → gc_CL s.1 s.2.1 s.2.2.1 s.2.2.2.1 (gc_E bl i) ((11, 0, 0, 0) :: bl i)) ∧ ∀ j, j < k → s.2.2.2.2 j = nI (gc_E bl j)
theorem gc_c32 {post : St1 → Prop} {cm pl fl oc ec pc : Int32} {a1 a2 a3 a4 a5 a6 a7 a8 a9 a10 a11 a12 a13 a14 a15 a16 a17 : Nat → Int32} {l : Nat} {O A B C : Nat → Nat} {K : Nat → Nat} {lv : Nat → Bool} (hs : gc_src l O A B C a1 a2 a3 a4) (hK : gc_K K a8)
    (hlv : ∀ i, i < l → (lv i = true ↔ gc_aft l (O i) (A i) (B i) (C i) a6 i (A i)))
    (H : ∀ b10 b11 b12 b13 b14 q, gc_code l (fun i => gc_blk K (O i) (A i) (B i) (C i) (a3 i) (lv i)) b10 b11 b12 b13 b14 → post (nI l, cm, q, pl, fl, oc, ec, pc, a1, a2, a3, a4, a5, a6, a7, a8, a9, b10, b11, b12, b13, b14, a15, a16, a17)) :
    ∃ n, wX_compile_32 post n 0 (nI l) cm 0 pl fl oc ec pc a1 a2 a3 a4 a5 a6 a7 a8 a9 a10 a11 a12 a13 a14 a15 a16 a17 := by
  have hl := hs.1
  have hbl : ∀ j, ((fun i => gc_blk K (O i) (A i) (B i) (C i) (a3 i) (lv i)) j).length ≤ 4 := fun j => gc_blk_le _ _ _ _ _ _ _
  generalize ebl : (fun i => gc_blk K (O i) (A i) (B i) (C i) (a3 i) (lv i)) = bl at H hbl
  refine pk_loop (fun n k (s : (Nat → Int32) × (Nat → Int32) × (Nat → Int32) × (Nat → Int32) × (Nat → Int32)) => wX_compile_32 post n (nI k) (nI l) cm (nI (gc_E bl k)) pl fl oc ec pc a1 a2 a3 a4 a5 a6 a7 a8 a9 s.1 s.2.1 s.2.2.1 s.2.2.2.1 s.2.2.2.2 a15 a16 a17) (gc_cC bl) l 0 (a10, a11, a12, a13, a14) (by omega) ⟨fun i hi => absurd hi (by omega), fun i hi => absurd hi (by omega)⟩ ?_ ?_
  · intro n s h
    obtain ⟨b10, b11, b12, b13, b14⟩ := s
    refine pk_le l l (fun _ => ?_) (fun z => absurd z (by omega))
    refine gc_c76 hl hbl h.1 (fun j hj => ?_) (fun c10 c11 c12 c13 c14 hc => H c10 c11 c12 c13 c14 _ hc)
    rw [show min j l = j by omega]
    exact h.2 j hj
  · intro n k s hk h hw
    obtain ⟨b10, b11, b12, b13, b14⟩ := s
    have hE := gc_E_le hbl k
    obtain ⟨q1, q2⟩ := h
    dsimp only at q1 q2 hw ⊢
    have eb : gc_blk K (O k) (A k) (B k) (C k) (a3 k) (lv k) = bl k := by rw [← ebl]
    refine pk_le l k (fun z => absurd z (by omega)) (fun _ => ⟨pk_in k 36 (by omega), nm_e ?_⟩)
    rw [gc_cl (by omega), gc_s16 _ (by omega)]
    refine gc_write (by omega) (by decide) (by decide) (fun c10 c11 c12 c13 hc => ?_)
    refine gc_cOne (lv := lv k) hl hK hk (hs.2 k hk) (by omega) (hlv k hk) (fun d10 d11 d12 d13 hd => nm_r (nI_1 k) ?_)
    rw [eb] at hd ⊢
    have hx := gc_ext_app hc rfl hd
    refine hw (d10, d11, d12, d13, upd b14 k (nI (gc_E bl k))) ⟨?_, ?_⟩
    · intro i hi
      dsimp only
      by_cases e : i = k
      · subst e
        exact hx.2
      · refine gc_CL_cong _ _ (fun j hj => hx.1 j ?_) (q1 i (by omega))
        have m := gc_E_mono bl k (i := i + 1) (by omega)
        have e : gc_E bl (i + 1) = gc_E bl i + 1 + (bl i).length := rfl
        rw [List.length_cons] at hj
        omega
    · intro j hj
      dsimp only
      by_cases e : j = k
      · rw [e, pk_us]
      · rw [pk_un e]
        exact q2 j (by omega)
/-- the code stands and fits the source -/
def gc_cmp (l : Nat) (O A B C : Nat → Nat) (a3 a6 a8 a10 a11 a12 a13 a14 : Nat → Int32) : Prop :=
  ∃ (K : Nat → Nat) (lv : Nat → Bool), gc_K K a8 ∧ gc_SM a6 ∧ gc_FP l O A B C a6 ∧
    (∀ u v, u < 8 → v < 8 → u ≠ v → gc_la l a6 0 v → gc_la l a6 0 u → K u < 3 → K u ≠ K v) ∧
    (∀ i, i < l → ∀ u v, u < 8 → v < 8 → u ≠ v → gc_wr (O i) (A i) v → gc_aft l (O i) (A i) (B i) (C i) a6 i u → K u < 3 → K u ≠ K v) ∧
    (∀ i, i < l → (lv i = true ↔ gc_aft l (O i) (A i) (B i) (C i) a6 i (A i))) ∧
    gc_code l (fun i => gc_blk K (O i) (A i) (B i) (C i) (a3 i) (lv i)) a10 a11 a12 a13 a14
theorem gc_compile {post : St1 → Prop} {cm ce pl fl oc ec pc : Int32} {a1 a2 a3 a4 a5 a6 a7 a8 a9 a10 a11 a12 a13 a14 a15 a16 a17 : Nat → Int32} {l : Nat} {O A B C : Nat → Nat} (hs : gc_src l O A B C a1 a2 a3 a4) (hc : cm = 0 ∨ gc_cmp l O A B C a3 a6 a8 a10 a11 a12 a13 a14)
    (H : ∀ dm de b6 b7 b8 b9 b10 b11 b12 b13 b14, gc_cmp l O A B C a3 b6 b8 b10 b11 b12 b13 b14 → post (nI l, dm, de, pl, fl, oc, ec, pc, a1, a2, a3, a4, a5, b6, b7, b8, b9, b10, b11, b12, b13, b14, a15, a16, a17)) :
    wpX_compile post (nI l, cm, ce, pl, fl, oc, ec, pc, a1, a2, a3, a4, a5, a6, a7, a8, a9, a10, a11, a12, a13, a14, a15, a16, a17) := by
  refine br_c (fun e => ?_) (fun e => ?_)
  · refine gc_findLiveness hs (fun b6 s1 s2 => ?_)
    refine gc_findRivals hs (fun b7 s3 => ?_)
    refine gc_colourVariables (fun b8 b9 K s4 s5 => ?_)
    have hlv : ∃ lv : Nat → Bool, ∀ i, i < l → (lv i = true ↔ gc_aft l (O i) (A i) (B i) (C i) b6 i (A i)) := by
      refine ⟨fun i => @decide (gc_aft l (O i) (A i) (B i) (C i) b6 i (A i)) (Classical.propDecidable _), fun i _ => ?_⟩
      exact @decide_eq_true_iff _ (Classical.propDecidable _)
    obtain ⟨lv, hlv⟩ := hlv
    refine gc_c32 hs s4 hlv (fun b10 b11 b12 b13 b14 q s6 => H _ _ b6 b7 b8 b9 b10 b11 b12 b13 b14 ?_)
    refine ⟨K, lv, s4, s1, s2, ?_, ?_, hlv, s6⟩
    · exact fun u v hu hv hn p q h3 => s5 u v hu hv hn (s3.1 u v hu hv hn p q) h3
    · exact fun i hi u v hu hv hn p q h3 => s5 u v hu hv hn (s3.2 i hi u v hu hv hn p q) h3
  · rcases hc with hc | hc
    · exact absurd hc e
    · exact H cm ce a6 a7 a8 a9 a10 a11 a12 a13 a14 hc
end
section
/-! one step of the target machine, by its operation -/
theorem gc_xX {post : Int32 → St1 → Prop} {ln cm ce pl fl ec pc : Int32} {a1 a2 a3 a4 a5 a6 a7 a8 a9 a10 a11 a12 a13 a14 a15 a16 a17 : Nat → Int32} {s o : Nat} (hs : s < 2000) (ho : 0 < o) (ho2 : o < 10) (H : post (nI o) (ln, cm, ce, pl, fl, nI o, ec, pc, a1, a2, a3, a4, a5, a6, a7, a8, a9, a10, a11, a12, a13, a14, a15, a16, a17)) : wX_run_119 post (2001 - s) (nI s) ln cm ce pl fl (nI o) ec pc a1 a2 a3 a4 a5 a6 a7 a8 a9 a10 a11 a12 a13 a14 a15 a16 a17 := by
  rw [show 2001 - s = (2001 - (s + 1)) + 1 by omega]
  exact pk_le 2000 s (fun z => absurd z (by omega)) (fun _ => br_f (nI_ne0 ho (by omega)) H)
theorem gc_xN {post : Int32 → St1 → Prop} {ln cm ce fl ec pc : Int32} {a1 a2 a3 a4 a5 a6 a7 a8 a9 a10 a11 a12 a13 a14 a15 a16 a17 : Nat → Int32} {s p r : Nat} {y z : Int32} (hs : s < 2000) (hp : p < 224) (hc : a10 p = 0 ∧ a11 p = nI r ∧ a12 p = y ∧ a13 p = z) (hr : r < 6)
    (H : wX_run_119 post (2001 - (s + 1)) (nI (s + 1)) ln cm ce (nI (p + 1)) fl 0 ec pc a1 a2 a3 a4 a5 a6 a7 a8 a9 a10 a11 a12 a13 a14 (upd a15 r y) a16 a17) : wX_run_119 post (2001 - s) (nI s) ln cm ce (nI p) fl 0 ec pc a1 a2 a3 a4 a5 a6 a7 a8 a9 a10 a11 a12 a13 a14 a15 a16 a17 := by
  have cp : (nI p).toNatClampNeg = p := gc_cl (by omega)
  have cr : (nI r).toNatClampNeg = r := gc_cl (by omega)
  rw [show 2001 - s = (2001 - (s + 1)) + 1 by omega]
  refine pk_le 2000 s (fun z => absurd z (by omega)) (fun _ => br_t rfl ?_)
  refine ⟨pk_in p 224 hp, nm_r (e' := 0) (by rw [cp]; exact hc.1) ⟨pk_in p 224 hp, nm_r (e' := nI r) (by rw [cp]; exact hc.2.1) ⟨pk_in p 224 hp, nm_r (e' := y) (by rw [cp]; exact hc.2.2.1) (nm_r (nI_1 p) ?_)⟩⟩⟩
  refine br_f (by decide) (br_t rfl ⟨pk_in r 6 hr, nm_e (nm_r (nI_1 s) ?_)⟩)
  rw [cr]
  exact H
theorem gc_xM {post : Int32 → St1 → Prop} {ln cm ce fl ec pc : Int32} {a1 a2 a3 a4 a5 a6 a7 a8 a9 a10 a11 a12 a13 a14 a15 a16 a17 : Nat → Int32} {s p r y : Nat} {z : Int32} (hs : s < 2000) (hp : p < 224) (hc : a10 p = 1 ∧ a11 p = nI r ∧ a12 p = nI y ∧ a13 p = z) (hr : r < 6) (hy : y < 6)
    (H : wX_run_119 post (2001 - (s + 1)) (nI (s + 1)) ln cm ce (nI (p + 1)) fl 0 ec pc a1 a2 a3 a4 a5 a6 a7 a8 a9 a10 a11 a12 a13 a14 (upd a15 r (a15 y)) a16 a17) : wX_run_119 post (2001 - s) (nI s) ln cm ce (nI p) fl 0 ec pc a1 a2 a3 a4 a5 a6 a7 a8 a9 a10 a11 a12 a13 a14 a15 a16 a17 := by
  have cp : (nI p).toNatClampNeg = p := gc_cl (by omega)
  have cr : (nI r).toNatClampNeg = r := gc_cl (by omega)
  have cy : (nI y).toNatClampNeg = y := gc_cl (by omega)
  rw [show 2001 - s = (2001 - (s + 1)) + 1 by omega]
  refine pk_le 2000 s (fun z => absurd z (by omega)) (fun _ => br_t rfl ?_)
  refine ⟨pk_in p 224 hp, nm_r (e' := 1) (by rw [cp]; exact hc.1) ⟨pk_in p 224 hp, nm_r (e' := nI r) (by rw [cp]; exact hc.2.1) ⟨pk_in p 224 hp, nm_r (e' := nI y) (by rw [cp]; exact hc.2.2.1) (nm_r (nI_1 p) ?_)⟩⟩⟩
  refine br_f (by decide) (br_f (by decide) (br_t rfl ⟨pk_in y 6 hy, pk_in r 6 hr, nm_e (nm_r (nI_1 s) ?_)⟩))
  rw [cr, cy]
  exact H
def gc_val (o : Nat) (k p q : Int32) : Int32 := if o = 0 then k else if o = 1 then p else if o = 2 then p + q else if o = 3 then p - q else if o = 4 then p * q else if q ≤ p then 0 else 1
theorem gc_compute {post : Int32 → Prop} {ln cm ce pl fl oc ec pc : Int32} {a1 a2 a3 a4 a5 a6 a7 a8 a9 a10 a11 a12 a13 a14 a15 a16 a17 : Nat → Int32} {o : Nat} {k x y : Int32} (h2 : 2 ≤ o) (h5 : o ≤ 5) (H : post (gc_val o k x y)) : wpX_compute post (ln, cm, ce, pl, fl, oc, ec, pc, a1, a2, a3, a4, a5, a6, a7, a8, a9, a10, a11, a12, a13, a14, a15, a16, a17) (nI o) x y := by
  unfold gc_val at H
  rw [if_neg (by omega), if_neg (by omega)] at H
  refine pk_eq o 2 (fun e => ?_) (fun e => ?_)
  · rw [if_pos e] at H
    exact H
  rw [if_neg e] at H
  refine pk_eq o 3 (fun e => ?_) (fun e => ?_)
  · rw [if_pos e] at H
    exact H
  rw [if_neg e] at H
  refine pk_eq o 4 (fun e => ?_) (fun e => ?_)
  · rw [if_pos e] at H
    exact H
  rw [if_neg e] at H
  refine br_c (fun e => ?_) (fun e => ?_)
  · rw [if_pos e] at H
    exact H
  · rw [if_neg e] at H
    exact H
theorem gc_xO {post : Int32 → St1 → Prop} {ln cm ce fl ec pc : Int32} {a1 a2 a3 a4 a5 a6 a7 a8 a9 a10 a11 a12 a13 a14 a15 a16 a17 : Nat → Int32} {s p r o y z : Nat} {k : Int32} (hs : s < 2000) (hp : p < 224) (h2 : 2 ≤ o) (h5 : o ≤ 5) (hc : a10 p = nI o ∧ a11 p = nI r ∧ a12 p = nI y ∧ a13 p = nI z) (hr : r < 6) (hy : y < 6) (hz : z < 6)
    (H : wX_run_119 post (2001 - (s + 1)) (nI (s + 1)) ln cm ce (nI (p + 1)) fl 0 ec pc a1 a2 a3 a4 a5 a6 a7 a8 a9 a10 a11 a12 a13 a14 (upd a15 r (gc_val o k (a15 y) (a15 z))) a16 a17) : wX_run_119 post (2001 - s) (nI s) ln cm ce (nI p) fl 0 ec pc a1 a2 a3 a4 a5 a6 a7 a8 a9 a10 a11 a12 a13 a14 a15 a16 a17 := by
  have cp : (nI p).toNatClampNeg = p := gc_cl (by omega)
  have cr : (nI r).toNatClampNeg = r := gc_cl (by omega)
  have cy : (nI y).toNatClampNeg = y := gc_cl (by omega)
  have cz : (nI z).toNatClampNeg = z := gc_cl (by omega)
  rw [show 2001 - s = (2001 - (s + 1)) + 1 by omega]
  refine pk_le 2000 s (fun z => absurd z (by omega)) (fun _ => br_t rfl ?_)
  refine ⟨pk_in p 224 hp, nm_r (e' := nI o) (by rw [cp]; exact hc.1) ⟨pk_in p 224 hp, nm_r (e' := nI r) (by rw [cp]; exact hc.2.1) ⟨pk_in p 224 hp, nm_r (e' := nI y) (by rw [cp]; exact hc.2.2.1) (nm_r (nI_1 p) ?_)⟩⟩⟩
  refine pk_eq o 11 (fun e => absurd e (by omega)) (fun _ => pk_eq o 0 (fun e => absurd e (by omega)) (fun _ => pk_eq o 1 (fun e => absurd e (by omega)) (fun _ => pk_lt 5 o (fun e => absurd e (by omega)) (fun _ => ⟨pk_in y 6 hy, pk_in p 224 hp, pk_in z 6 hz (by rw [cp]; exact hc.2.2.2), ?_⟩))))
  rw [cp, hc.2.2.2, cy, cz]
  refine gc_compute (k := k) h2 h5 ⟨pk_in r 6 hr, nm_e (nm_r (nI_1 s) ?_)⟩
  rw [cr]
  exact H
theorem gc_xF {post : Int32 → St1 → Prop} {ln cm ce fl ec pc : Int32} {a1 a2 a3 a4 a5 a6 a7 a8 a9 a10 a11 a12 a13 a14 a15 a16 a17 : Nat → Int32} {s p r y : Nat} {z : Int32} (hs : s < 2000) (hp : p < 224) (hc : a10 p = 12 ∧ a11 p = nI r ∧ a12 p = nI y ∧ a13 p = z) (hr : r < 6) (hy : y < 8)
    (H : wX_run_119 post (2001 - (s + 1)) (nI (s + 1)) ln cm ce (nI (p + 1)) fl 0 ec pc a1 a2 a3 a4 a5 a6 a7 a8 a9 a10 a11 a12 a13 a14 (upd a15 r (a16 y)) a16 a17) : wX_run_119 post (2001 - s) (nI s) ln cm ce (nI p) fl 0 ec pc a1 a2 a3 a4 a5 a6 a7 a8 a9 a10 a11 a12 a13 a14 a15 a16 a17 := by
  have cp : (nI p).toNatClampNeg = p := gc_cl (by omega)
  have cr : (nI r).toNatClampNeg = r := gc_cl (by omega)
  have cy : (nI y).toNatClampNeg = y := gc_cl (by omega)
  rw [show 2001 - s = (2001 - (s + 1)) + 1 by omega]
  refine pk_le 2000 s (fun z => absurd z (by omega)) (fun _ => br_t rfl ?_)
  refine ⟨pk_in p 224 hp, nm_r (e' := 12) (by rw [cp]; exact hc.1) ⟨pk_in p 224 hp, nm_r (e' := nI r) (by rw [cp]; exact hc.2.1) ⟨pk_in p 224 hp, nm_r (e' := nI y) (by rw [cp]; exact hc.2.2.1) (nm_r (nI_1 p) ?_)⟩⟩⟩
  refine br_f (by decide) (br_f (by decide) (br_f (by decide) (br_t (by decide) (br_t rfl ⟨pk_in y 8 hy, pk_in r 6 hr, nm_e (nm_r (nI_1 s) ?_)⟩))))
  rw [cr, cy]
  exact H
theorem gc_xK {post : Int32 → St1 → Prop} {ln cm ce fl ec pc : Int32} {a1 a2 a3 a4 a5 a6 a7 a8 a9 a10 a11 a12 a13 a14 a15 a16 a17 : Nat → Int32} {s p r y : Nat} {z : Int32} (hs : s < 2000) (hp : p < 224) (hc : a10 p = 13 ∧ a11 p = nI r ∧ a12 p = nI y ∧ a13 p = z) (hr : r < 6) (hy : y < 8)
    (H : wX_run_119 post (2001 - (s + 1)) (nI (s + 1)) ln cm ce (nI (p + 1)) fl 0 ec pc a1 a2 a3 a4 a5 a6 a7 a8 a9 a10 a11 a12 a13 a14 a15 (upd a16 y (a15 r)) a17) : wX_run_119 post (2001 - s) (nI s) ln cm ce (nI p) fl 0 ec pc a1 a2 a3 a4 a5 a6 a7 a8 a9 a10 a11 a12 a13 a14 a15 a16 a17 := by
  have cp : (nI p).toNatClampNeg = p := gc_cl (by omega)
  have cr : (nI r).toNatClampNeg = r := gc_cl (by omega)
  have cy : (nI y).toNatClampNeg = y := gc_cl (by omega)
  rw [show 2001 - s = (2001 - (s + 1)) + 1 by omega]
  refine pk_le 2000 s (fun z => absurd z (by omega)) (fun _ => br_t rfl ?_)
  refine ⟨pk_in p 224 hp, nm_r (e' := 13) (by rw [cp]; exact hc.1) ⟨pk_in p 224 hp, nm_r (e' := nI r) (by rw [cp]; exact hc.2.1) ⟨pk_in p 224 hp, nm_r (e' := nI y) (by rw [cp]; exact hc.2.2.1) (nm_r (nI_1 p) ?_)⟩⟩⟩
  refine br_f (by decide) (br_f (by decide) (br_f (by decide) (br_t (by decide) (br_f (by decide) (br_t rfl ⟨pk_in r 6 hr, pk_in y 8 hy, nm_e (nm_r (nI_1 s) ?_)⟩)))))
  rw [cr, cy]
  exact H
/-- what is printed stands in the array, the first 32 of it -/
def gc_pv (t : List Int32) (f : Nat → Int32) : Prop := ∀ k, k < 32 → k < t.length → f k = t.getD k 0
theorem gc_pv_add {t : List Int32} {f : Nat → Int32} {x : Int32} (h : gc_pv t f) : gc_pv (t ++ [x]) (upd f t.length x) := by
  intro k hk hl
  rw [List.length_append, List.length_singleton] at hl
  by_cases e : k = t.length
  · rw [e, pk_us]
    simp
  · rw [pk_un e, h k hk (by omega)]
    simp [List.getD, List.getElem?_append_left (show k < t.length by omega)]
theorem gc_pv_big {t : List Int32} {f : Nat → Int32} {x : Int32} (h : gc_pv t f) (hb : 32 ≤ t.length) : gc_pv (t ++ [x]) f := by
  intro k hk hl
  rw [h k hk (by omega)]
  simp [List.getD, List.getElem?_append_left (show k < t.length by omega)]
theorem gc_xW {post : Int32 → St1 → Prop} {ln cm ce fl ec : Int32} {a1 a2 a3 a4 a5 a6 a7 a8 a9 a10 a11 a12 a13 a14 a15 a16 a17 : Nat → Int32} {s p r : Nat} {y z : Int32} {t : List Int32} (hs : s < 2000) (hp : p < 224) (hc : a10 p = 6 ∧ a11 p = nI r ∧ a12 p = y ∧ a13 p = z) (hr : r < 6) (ht : t.length < 1000) (hv : gc_pv t a17)
    (H : ∀ b17, gc_pv (t ++ [a15 r]) b17 → wX_run_119 post (2001 - (s + 1)) (nI (s + 1)) ln cm ce (nI (p + 1)) fl 0 ec (nI (t ++ [a15 r]).length) a1 a2 a3 a4 a5 a6 a7 a8 a9 a10 a11 a12 a13 a14 a15 a16 b17) : wX_run_119 post (2001 - s) (nI s) ln cm ce (nI p) fl 0 ec (nI t.length) a1 a2 a3 a4 a5 a6 a7 a8 a9 a10 a11 a12 a13 a14 a15 a16 a17 := by
  have cp : (nI p).toNatClampNeg = p := gc_cl (by omega)
  have cr : (nI r).toNatClampNeg = r := gc_cl (by omega)
  have ct : (nI t.length).toNatClampNeg = t.length := gc_cl (by omega)
  rw [List.length_append, List.length_singleton] at H
  rw [show 2001 - s = (2001 - (s + 1)) + 1 by omega]
  refine pk_le 2000 s (fun z => absurd z (by omega)) (fun _ => br_t rfl ?_)
  refine ⟨pk_in p 224 hp, nm_r (e' := 6) (by rw [cp]; exact hc.1) ⟨pk_in p 224 hp, nm_r (e' := nI r) (by rw [cp]; exact hc.2.1) ⟨pk_in p 224 hp, nm_r (e' := y) (by rw [cp]; exact hc.2.2.1) (nm_r (nI_1 p) ?_)⟩⟩⟩
  refine br_f (by decide) (br_f (by decide) (br_f (by decide) (br_t (by decide) (br_f (by decide) (br_f (by decide) (br_t rfl ⟨pk_in r 6 hr, ?_⟩))))))
  rw [cr]
  refine pk_le 32 t.length (fun e => nm_r (nI_1 _) (nm_r (nI_1 s) (H a17 (gc_pv_big hv e)))) (fun e => ⟨pk_in t.length 32 e, nm_r (e' := upd a17 t.length (a15 r)) (by rw [ct]) (nm_r (nI_1 _) (nm_r (nI_1 s) (H _ (gc_pv_add hv))))⟩)
theorem gc_xT {post : Int32 → St1 → Prop} {ln cm ce pc : Int32} {a1 a2 a3 a4 a5 a6 a7 a8 a9 a10 a11 a12 a13 a14 a15 a16 a17 : Nat → Int32} {s p f x : Nat} {w y z : Int32} (hs : s < 2000) (hp : p < 224) (hc : a10 p = 11 ∧ a11 p = w ∧ a12 p = y ∧ a13 p = z) (hf : f < 1000)
    (H : wX_run_119 post (2001 - (s + 1)) (nI (s + 1)) ln cm ce (nI (p + 1)) (nI f) 0 (nI (x + 1)) pc a1 a2 a3 a4 a5 a6 a7 a8 a9 a10 a11 a12 a13 a14 a15 a16 a17) : wX_run_119 post (2001 - s) (nI s) ln cm ce (nI p) (nI (f + 1)) 0 (nI x) pc a1 a2 a3 a4 a5 a6 a7 a8 a9 a10 a11 a12 a13 a14 a15 a16 a17 := by
  have cp : (nI p).toNatClampNeg = p := gc_cl (by omega)
  rw [show 2001 - s = (2001 - (s + 1)) + 1 by omega]
  refine pk_le 2000 s (fun z => absurd z (by omega)) (fun _ => br_t rfl ?_)
  refine ⟨pk_in p 224 hp, nm_r (e' := 11) (by rw [cp]; exact hc.1) ⟨pk_in p 224 hp, nm_e ⟨pk_in p 224 hp, nm_e (nm_r (nI_1 p) ?_)⟩⟩⟩
  refine br_t rfl (br_f (nI_ne0 (by omega) (by omega)) (nm_r (nI_pred f) (nm_r (nI_1 x) (nm_r (nI_1 s) H))))
theorem gc_xT0 {post : Int32 → St1 → Prop} {ln cm ce ec pc : Int32} {a1 a2 a3 a4 a5 a6 a7 a8 a9 a10 a11 a12 a13 a14 a15 a16 a17 : Nat → Int32} {s p : Nat} {w y z : Int32} (hs : s < 1999) (hp : p < 224) (hc : a10 p = 11 ∧ a11 p = w ∧ a12 p = y ∧ a13 p = z)
    (H : post (nI 2) (ln, cm, ce, nI (p + 1), nI 0, nI 2, ec, pc, a1, a2, a3, a4, a5, a6, a7, a8, a9, a10, a11, a12, a13, a14, a15, a16, a17)) : wX_run_119 post (2001 - s) (nI s) ln cm ce (nI p) (nI 0) 0 ec pc a1 a2 a3 a4 a5 a6 a7 a8 a9 a10 a11 a12 a13 a14 a15 a16 a17 := by
  have cp : (nI p).toNatClampNeg = p := gc_cl (by omega)
  rw [show 2001 - s = (2001 - (s + 1)) + 1 by omega]
  refine pk_le 2000 s (fun z => absurd z (by omega)) (fun _ => br_t rfl ?_)
  refine ⟨pk_in p 224 hp, nm_r (e' := 11) (by rw [cp]; exact hc.1) ⟨pk_in p 224 hp, nm_e ⟨pk_in p 224 hp, nm_e (nm_r (nI_1 p) ?_)⟩⟩⟩
  exact br_t rfl (br_t rfl (nm_r (nI_1 s) (gc_xX (o := 2) (by omega) (by omega) (by omega) H)))
theorem gc_xH {post : Int32 → St1 → Prop} {ln cm ce fl ec pc : Int32} {a1 a2 a3 a4 a5 a6 a7 a8 a9 a10 a11 a12 a13 a14 a15 a16 a17 : Nat → Int32} {s p : Nat} {w y z : Int32} (hs : s < 1999) (hp : p < 224) (hc : a10 p = 10 ∧ a11 p = w ∧ a12 p = y ∧ a13 p = z)
    (H : post (nI 1) (ln, cm, ce, nI (p + 1), fl, nI 1, ec, pc, a1, a2, a3, a4, a5, a6, a7, a8, a9, a10, a11, a12, a13, a14, a15, a16, a17)) : wX_run_119 post (2001 - s) (nI s) ln cm ce (nI p) fl 0 ec pc a1 a2 a3 a4 a5 a6 a7 a8 a9 a10 a11 a12 a13 a14 a15 a16 a17 := by
  have cp : (nI p).toNatClampNeg = p := gc_cl (by omega)
  rw [show 2001 - s = (2001 - (s + 1)) + 1 by omega]
  refine pk_le 2000 s (fun z => absurd z (by omega)) (fun _ => br_t rfl ?_)
  refine ⟨pk_in p 224 hp, nm_r (e' := 10) (by rw [cp]; exact hc.1) ⟨pk_in p 224 hp, nm_e ⟨pk_in p 224 hp, nm_e (nm_r (nI_1 p) ?_)⟩⟩⟩
  exact br_f (by decide) (br_f (by decide) (br_f (by decide) (br_t (by decide) (br_f (by decide) (br_f (by decide) (br_f (by decide) (br_t rfl (nm_r (nI_1 s) (gc_xX (o := 1) (by omega) (by omega) (by omega) H)))))))))
theorem gc_xJ {post : Int32 → St1 → Prop} {ln cm ce fl ec pc : Int32} {a1 a2 a3 a4 a5 a6 a7 a8 a9 a10 a11 a12 a13 a14 a15 a16 a17 : Nat → Int32} {s p a : Nat} {z : Int32} (hs : s < 2000) (hp : p < 224) (hc : a10 p = 7 ∧ a11 p = 0 ∧ a12 p = nI a ∧ a13 p = z) (ha : a < 36)
    (H : wX_run_119 post (2001 - (s + 1)) (nI (s + 1)) ln cm ce (a14 a) fl 0 ec pc a1 a2 a3 a4 a5 a6 a7 a8 a9 a10 a11 a12 a13 a14 a15 a16 a17) : wX_run_119 post (2001 - s) (nI s) ln cm ce (nI p) fl 0 ec pc a1 a2 a3 a4 a5 a6 a7 a8 a9 a10 a11 a12 a13 a14 a15 a16 a17 := by
  have cp : (nI p).toNatClampNeg = p := gc_cl (by omega)
  have ca : (nI a).toNatClampNeg = a := gc_cl (by omega)
  rw [show 2001 - s = (2001 - (s + 1)) + 1 by omega]
  refine pk_le 2000 s (fun z => absurd z (by omega)) (fun _ => br_t rfl ?_)
  refine ⟨pk_in p 224 hp, nm_r (e' := 7) (by rw [cp]; exact hc.1) ⟨pk_in p 224 hp, nm_r (e' := 0) (by rw [cp]; exact hc.2.1) ⟨pk_in p 224 hp, nm_r (e' := nI a) (by rw [cp]; exact hc.2.2.1) (nm_r (nI_1 p) ?_)⟩⟩⟩
  refine br_f (by decide) (br_f (by decide) (br_f (by decide) (br_t (by decide) (br_f (by decide) (br_f (by decide) (br_f (by decide) (br_f (by decide) ⟨pk_in 0 6 (by omega), pk_in p 224 hp, ?_⟩)))))))
  refine br_t rfl ⟨pk_in a 36 ha, nm_r (e' := a14 a) (by rw [ca]) ?_⟩
  exact br_f (by decide) (br_f (by decide) (nm_r (nI_1 s) H))
theorem gc_xI {post : Int32 → St1 → Prop} {ln cm ce fl ec pc : Int32} {a1 a2 a3 a4 a5 a6 a7 a8 a9 a10 a11 a12 a13 a14 a15 a16 a17 : Nat → Int32} {s p r b : Nat} {z : Int32} (hs : s < 2000) (hp : p < 224) (hc : a10 p = 8 ∧ a11 p = nI r ∧ a12 p = nI b ∧ a13 p = z) (hr : r < 6) (hb : b < 36)
    (H0 : a15 r = 0 → wX_run_119 post (2001 - (s + 1)) (nI (s + 1)) ln cm ce (nI (p + 1)) fl 0 ec pc a1 a2 a3 a4 a5 a6 a7 a8 a9 a10 a11 a12 a13 a14 a15 a16 a17) (H1 : ¬ a15 r = 0 → wX_run_119 post (2001 - (s + 1)) (nI (s + 1)) ln cm ce (a14 b) fl 0 ec pc a1 a2 a3 a4 a5 a6 a7 a8 a9 a10 a11 a12 a13 a14 a15 a16 a17) : wX_run_119 post (2001 - s) (nI s) ln cm ce (nI p) fl 0 ec pc a1 a2 a3 a4 a5 a6 a7 a8 a9 a10 a11 a12 a13 a14 a15 a16 a17 := by
  have cp : (nI p).toNatClampNeg = p := gc_cl (by omega)
  have cr : (nI r).toNatClampNeg = r := gc_cl (by omega)
  have cb : (nI b).toNatClampNeg = b := gc_cl (by omega)
  rw [show 2001 - s = (2001 - (s + 1)) + 1 by omega]
  refine pk_le 2000 s (fun z => absurd z (by omega)) (fun _ => br_t rfl ?_)
  refine ⟨pk_in p 224 hp, nm_r (e' := 8) (by rw [cp]; exact hc.1) ⟨pk_in p 224 hp, nm_r (e' := nI r) (by rw [cp]; exact hc.2.1) ⟨pk_in p 224 hp, nm_r (e' := nI b) (by rw [cp]; exact hc.2.2.1) (nm_r (nI_1 p) ?_)⟩⟩⟩
  refine br_f (by decide) (br_f (by decide) (br_f (by decide) (br_t (by decide) (br_f (by decide) (br_f (by decide) (br_f (by decide) (br_f (by decide) ⟨pk_in r 6 hr, pk_in p 224 hp, ?_⟩)))))))
  rw [cr]
  refine br_f (by decide) (br_t rfl (br_c (fun e => br_f (by decide) (nm_r (nI_1 s) (H0 e))) (fun e => ⟨pk_in b 36 hb, nm_r (e' := a14 b) (by rw [cb]) (br_f (by decide) (nm_r (nI_1 s) (H1 e)))⟩)))
theorem gc_xS {post : Int32 → St1 → Prop} {ln cm ce fl ec pc : Int32} {a1 a2 a3 a4 a5 a6 a7 a8 a9 a10 a11 a12 a13 a14 a15 a16 a17 : Nat → Int32} {s p r b c : Nat} (hs : s < 2000) (hp : p < 224) (hc : a10 p = 9 ∧ a11 p = nI r ∧ a12 p = nI b ∧ a13 p = nI c) (hr : r < 6) (hb : b < 32) (hc4 : c ≤ 4)
    (H0 : (a15 r < 0 ∨ nI c ≤ a15 r) → wX_run_119 post (2001 - (s + 1)) (nI (s + 1)) ln cm ce (nI (p + 1)) fl 0 ec pc a1 a2 a3 a4 a5 a6 a7 a8 a9 a10 a11 a12 a13 a14 a15 a16 a17)
    (H1 : ∀ k, k < c → a15 r = nI k → wX_run_119 post (2001 - (s + 1)) (nI (s + 1)) ln cm ce (a14 (b + k)) fl 0 ec pc a1 a2 a3 a4 a5 a6 a7 a8 a9 a10 a11 a12 a13 a14 a15 a16 a17) : wX_run_119 post (2001 - s) (nI s) ln cm ce (nI p) fl 0 ec pc a1 a2 a3 a4 a5 a6 a7 a8 a9 a10 a11 a12 a13 a14 a15 a16 a17 := by
  have cp : (nI p).toNatClampNeg = p := gc_cl (by omega)
  have cr : (nI r).toNatClampNeg = r := gc_cl (by omega)
  rw [show 2001 - s = (2001 - (s + 1)) + 1 by omega]
  refine pk_le 2000 s (fun z => absurd z (by omega)) (fun _ => br_t rfl ?_)
  refine ⟨pk_in p 224 hp, nm_r (e' := 9) (by rw [cp]; exact hc.1) ⟨pk_in p 224 hp, nm_r (e' := nI r) (by rw [cp]; exact hc.2.1) ⟨pk_in p 224 hp, nm_r (e' := nI b) (by rw [cp]; exact hc.2.2.1) (nm_r (nI_1 p) ?_)⟩⟩⟩
  refine br_f (by decide) (br_f (by decide) (br_f (by decide) (br_t (by decide) (br_f (by decide) (br_f (by decide) (br_f (by decide) (br_f (by decide) ⟨pk_in r 6 hr, pk_in p 224 hp, ?_⟩)))))))
  rw [cr, cp, hc.2.2.2]
  refine br_f (by decide) (br_f (by decide) (br_t rfl (br_c (fun e => nm_r (nI_1 s) (H0 (Or.inl e))) (fun e => br_c (fun e2 => nm_r (nI_1 s) (H0 (Or.inr e2))) (fun e2 => ?_)))))
  obtain ⟨k, hk, ek⟩ := nI_of e
  have hkc : k < c := by
    apply Nat.lt_of_not_le
    intro z
    apply e2
    rw [ek]
    exact nI_le z hk
  have cb : (nI (b + k)).toNatClampNeg = b + k := gc_cl (by omega)
  rw [ek, nI_add]
  exact ⟨pk_in (b + k) 36 (by omega), nm_r (e' := a14 (b + k)) (by rw [cb]) (nm_r (nI_1 s) (H1 k hkc ek))⟩
end
section
/-! the source's own meaning, and a block of target code against it -/
def gc_env (o a b c : Nat) (k : Int32) (e : Nat → Int32) : Nat → Int32 := if o ≤ 5 then upd e a (gc_val o k (e b) (e c)) else e
def gc_nx (o a b c i : Nat) (e : Nat → Int32) : Nat :=
  if o = 7 then a else if o = 8 then (if e a = 0 then i + 1 else b) else if o = 9 then (if e a < 0 ∨ nI c ≤ e a then i + 1 else b + (e a).toNatClampNeg) else i + 1
def gc_pt (o a : Nat) (e : Nat → Int32) (t : List Int32) : List Int32 := if o = 6 then t ++ [e a] else t
def gc_sr (l : Nat) (O A B C : Nat → Nat) (V : Nat → Int32) : Nat → Nat → (Nat → Int32) → Nat → List Int32 → Nat × Nat × List Int32
  | 0, i, _, x, t => if l ≤ i then (1, x, t) else (2, x, t)
  | f + 1, i, e, x, t => if l ≤ i then (1, x, t) else if O i = 10 then (1, x + 1, t)
      else gc_sr l O A B C V f (gc_nx (O i) (A i) (B i) (C i) i e) (gc_env (O i) (A i) (B i) (C i) (V i) e) (x + 1) (gc_pt (O i) (A i) e t)
/-- where a variable's value is -/
def gc_lo (K : Nat → Nat) (a15 a16 : Nat → Int32) (v : Nat) : Int32 := if K v < 3 then a15 (K v) else a16 v
theorem gc_lo_t {K : Nat → Nat} {a15 a16 : Nat → Int32} {v : Nat} (h : K v < 3) : gc_lo K a15 a16 v = a15 (K v) := if_pos h
theorem gc_lo_f {K : Nat → Nat} {a15 a16 : Nat → Int32} {v : Nat} (h : ¬ K v < 3) : gc_lo K a15 a16 v = a16 v := if_neg h
theorem gc_lo_c {K : Nat → Nat} {a15 b15 a16 : Nat → Int32} {t v : Nat} (ht : 3 ≤ t) (h : ∀ j, j ≠ t → b15 j = a15 j) : gc_lo K b15 a16 v = gc_lo K a15 a16 v := by
  unfold gc_lo
  split
  · exact h _ (by omega)
  · rfl
theorem gc_yF {post : Int32 → St1 → Prop} {ln cm ce fl ec pc : Int32} {a1 a2 a3 a4 a5 a6 a7 a8 a9 a10 a11 a12 a13 a14 a15 a16 a17 : Nat → Int32} {K : Nat → Nat} {s p v t : Nat} (hs : s < 2000) (hp : p < 224) (hv : v < 8) (ht6 : t < 6) (hc : gc_CL a10 a11 a12 a13 p (gc_fl K v t))
    (H : ∀ b15, b15 (gc_fr K v t) = gc_lo K a15 a16 v → (∀ j, j ≠ t → b15 j = a15 j) → wX_run_119 post (2001 - (s + (gc_fl K v t).length)) (nI (s + (gc_fl K v t).length)) ln cm ce (nI (p + (gc_fl K v t).length)) fl 0 ec pc a1 a2 a3 a4 a5 a6 a7 a8 a9 a10 a11 a12 a13 a14 b15 a16 a17) :
    wX_run_119 post (2001 - s) (nI s) ln cm ce (nI p) fl 0 ec pc a1 a2 a3 a4 a5 a6 a7 a8 a9 a10 a11 a12 a13 a14 a15 a16 a17 := by
  by_cases e : K v < 3
  · have e1 : gc_fl K v t = [] := if_pos e
    have e2 : gc_fr K v t = K v := if_pos e
    have h := H a15 (by rw [e2, gc_lo_t e]) (fun _ _ => rfl)
    rw [e1] at h
    exact h
  · have e1 : gc_fl K v t = [(12, nI t, nI v, 0)] := if_neg e
    have e2 : gc_fr K v t = t := if_neg e
    rw [e1] at hc
    have h := H (upd a15 t (a16 v)) (by rw [e2, gc_lo_f e, pk_us]) (fun j hj => pk_un hj)
    rw [e1] at h
    exact gc_xF (z := 0) hs hp hc.1 ht6 hv h
theorem gc_yK {post : Int32 → St1 → Prop} {ln cm ce fl ec pc : Int32} {a1 a2 a3 a4 a5 a6 a7 a8 a9 a10 a11 a12 a13 a14 a15 a16 a17 : Nat → Int32} {K : Nat → Nat} {s p a : Nat} (hs : s < 2000) (hp : p < 224) (ha : a < 8) (hc : gc_CL a10 a11 a12 a13 p (gc_kp K a))
    (H : ∀ b16, (K a < 3 → b16 = a16) → (¬ K a < 3 → b16 = upd a16 a (a15 5)) → wX_run_119 post (2001 - (s + (gc_kp K a).length)) (nI (s + (gc_kp K a).length)) ln cm ce (nI (p + (gc_kp K a).length)) fl 0 ec pc a1 a2 a3 a4 a5 a6 a7 a8 a9 a10 a11 a12 a13 a14 a15 b16 a17) :
    wX_run_119 post (2001 - s) (nI s) ln cm ce (nI p) fl 0 ec pc a1 a2 a3 a4 a5 a6 a7 a8 a9 a10 a11 a12 a13 a14 a15 a16 a17 := by
  by_cases e : K a < 3
  · have e1 : gc_kp K a = [] := if_pos e
    have h := H a16 (fun _ => rfl) (fun z => absurd e z)
    rw [e1] at h
    exact h
  · have e1 : gc_kp K a = [(13, nI 5, nI a, 0)] := if_neg e
    rw [e1] at hc
    have h := H (upd a16 a (a15 5)) (fun z => absurd z e) (fun _ => rfl)
    rw [e1] at h
    exact gc_xK (z := 0) hs hp hc.1 (by omega) ha h
theorem gc_yC {post : Int32 → St1 → Prop} {ln cm ce fl ec pc : Int32} {a1 a2 a3 a4 a5 a6 a7 a8 a9 a10 a11 a12 a13 a14 a15 a16 a17 : Nat → Int32} {K : Nat → Nat} {s p o a b c : Nat} {xb : Int32} {e : Nat → Int32} (hs : s + 3 < 2000) (hp : p + 3 < 224) (ho : o ≤ 5)
    (hb : 1 ≤ o → b < 8 ∧ gc_lo K a15 a16 b = e b) (hcc : 2 ≤ o → c < 8 ∧ gc_lo K a15 a16 c = e c) (hcl : gc_CL a10 a11 a12 a13 p (gc_co K o a b c xb))
    (H : ∀ b15, b15 (gc_to K a) = gc_val o xb (e b) (e c) → (∀ j, j < 3 → j ≠ gc_to K a → b15 j = a15 j) → wX_run_119 post (2001 - (s + (gc_co K o a b c xb).length)) (nI (s + (gc_co K o a b c xb).length)) ln cm ce (nI (p + (gc_co K o a b c xb).length)) fl 0 ec pc a1 a2 a3 a4 a5 a6 a7 a8 a9 a10 a11 a12 a13 a14 b15 a16 a17) :
    wX_run_119 post (2001 - s) (nI s) ln cm ce (nI p) fl 0 ec pc a1 a2 a3 a4 a5 a6 a7 a8 a9 a10 a11 a12 a13 a14 a15 a16 a17 := by
  have tl : gc_to K a < 6 := gc_to_lt
  by_cases e0 : o = 0
  · have co : gc_co K o a b c xb = [(0, nI (gc_to K a), xb, 0)] := if_pos e0
    rw [co] at hcl H
    refine gc_xN (y := xb) (z := 0) (by omega) (by omega) hcl.1 tl (H _ ?_ ?_)
    · rw [pk_us]
      unfold gc_val
      rw [if_pos e0]
    · intro j _ hj
      exact pk_un hj
  · obtain ⟨hb1, hb2⟩ := hb (by omega)
    have fl := gc_fr_lt (K := K) (v := b) (s := 3) (by omega)
    have l1 := gc_fl_le K b 3
    by_cases e1 : o = 1
    · have co : gc_co K o a b c xb = gc_fl K b 3 ++ gc_mv K a b := by unfold gc_co; rw [if_neg e0, if_pos e1]
      have vl : gc_val o xb (e b) (e c) = e b := by unfold gc_val; rw [if_neg e0, if_pos e1]
      rw [co] at hcl
      obtain ⟨c1, c2⟩ := gc_CL_spl _ _ hcl
      refine gc_yF (by omega) (by omega) hb1 (by omega) c1 (fun b15 q1 q2 => ?_)
      by_cases e2 : gc_fr K b 3 = gc_to K a
      · have mv : gc_mv K a b = [] := if_pos e2
        rw [co, mv, List.append_nil] at H
        refine H b15 ?_ (fun j hj _ => q2 j (by omega))
        rw [vl, ← e2, q1, hb2]
      · have mv : gc_mv K a b = [(1, nI (gc_to K a), nI (gc_fr K b 3), 0)] := if_neg e2
        rw [co, mv, List.length_append, List.length_singleton] at H
        simp only [← Nat.add_assoc] at H
        rw [mv] at c2
        refine gc_xM (z := 0) (by omega) (by omega) c2.1 tl fl (H _ ?_ ?_)
        · rw [pk_us, vl, q1, hb2]
        · intro j hj hn
          rw [pk_un hn]
          exact q2 j (by omega)
    · obtain ⟨hc1, hc2⟩ := hcc (by omega)
      have co : gc_co K o a b c xb = gc_fl K b 3 ++ (gc_fl K c 4 ++ [(nI o, nI (gc_to K a), nI (gc_fr K b 3), nI (gc_fr K c 4))]) := by unfold gc_co; rw [if_neg e0, if_neg e1]
      have l2 := gc_fl_le K c 4
      have fl2 := gc_fr_lt (K := K) (v := c) (s := 4) (by omega)
      rw [co] at hcl
      obtain ⟨c1, c2⟩ := gc_CL_spl _ _ hcl
      obtain ⟨c3, c4⟩ := gc_CL_spl _ _ c2
      rw [co, List.length_append, List.length_append, List.length_singleton] at H
      simp only [← Nat.add_assoc] at H
      refine gc_yF (by omega) (by omega) hb1 (by omega) c1 (fun b15 q1 q2 => ?_)
      refine gc_yF (by omega) (by omega) hc1 (by omega) c3 (fun d15 r1 r2 => ?_)
      have x1 : d15 (gc_fr K b 3) = e b := by
        rw [r2 _ (by unfold gc_fr; split <;> omega), q1, hb2]
      have x2 : d15 (gc_fr K c 4) = e c := by
        rw [r1, gc_lo_c (Nat.le_refl 3) q2, hc2]
      refine gc_xO (k := xb) (by omega) (by omega) (by omega) ho c4.1 tl fl fl2 (H _ ?_ ?_)
      · rw [pk_us, x1, x2]
      · intro j hj hn
        rw [pk_un hn, r2 j (by omega), q2 j (by omega)]
theorem gc_yA {post : Int32 → St1 → Prop} {ln cm ce fl ec pc : Int32} {a1 a2 a3 a4 a5 a6 a7 a8 a9 a10 a11 a12 a13 a14 a15 a16 a17 : Nat → Int32} {K : Nat → Nat} {s p o a b c : Nat} {xb : Int32} {e : Nat → Int32} {P : Nat → Prop} (hs : s + 4 < 2000) (hp : p + 4 < 224) (ho : o ≤ 5) (ha : a < 8)
    (hb : 1 ≤ o → b < 8 ∧ gc_lo K a15 a16 b = e b) (hcc : 2 ≤ o → c < 8 ∧ gc_lo K a15 a16 c = e c) (hcl : gc_CL a10 a11 a12 a13 p (gc_as K o a b c xb))
    (hP : ∀ v, v < 8 → v ≠ a → P v → gc_lo K a15 a16 v = e v ∧ (K v < 3 → K v ≠ K a))
    (H : ∀ b15 b16, (∀ v, v < 8 → P v → gc_lo K b15 b16 v = gc_env o a b c xb e v) → wX_run_119 post (2001 - (s + (gc_as K o a b c xb).length)) (nI (s + (gc_as K o a b c xb).length)) ln cm ce (nI (p + (gc_as K o a b c xb).length)) fl 0 ec pc a1 a2 a3 a4 a5 a6 a7 a8 a9 a10 a11 a12 a13 a14 b15 b16 a17) :
    wX_run_119 post (2001 - s) (nI s) ln cm ce (nI p) fl 0 ec pc a1 a2 a3 a4 a5 a6 a7 a8 a9 a10 a11 a12 a13 a14 a15 a16 a17 := by
  have l1 := gc_co_le K o a b c xb
  unfold gc_as at hcl H
  rw [List.length_append] at H
  simp only [← Nat.add_assoc] at H
  obtain ⟨c1, c2⟩ := gc_CL_spl _ _ hcl
  refine gc_yC (by omega) (by omega) ho hb hcc c1 (fun b15 q1 q2 => ?_)
  refine gc_yK (by omega) (by omega) ha c2 (fun b16 r1 r2 => H b15 b16 ?_)
  intro v hv pv
  unfold gc_env
  rw [if_pos ho]
  by_cases ea : v = a
  · rw [ea, pk_us, ← q1]
    by_cases k3 : K a < 3
    · rw [gc_lo_t k3, show gc_to K a = K a from if_pos k3]
    · rw [gc_lo_f k3, r2 k3, pk_us, show gc_to K a = 5 from if_neg k3]
  · obtain ⟨w1, w2⟩ := hP v hv ea pv
    rw [pk_un ea, ← w1]
    by_cases k3 : K v < 3
    · rw [gc_lo_t k3, gc_lo_t k3]
      refine q2 _ k3 ?_
      unfold gc_to
      split
      · exact w2 k3
      · omega
    · rw [gc_lo_f k3, gc_lo_f k3]
      by_cases k4 : K a < 3
      · rw [r1 k4]
      · rw [r2 k4, pk_un ea]
theorem gc_block {post : Int32 → St1 → Prop} {cm ce fl ec : Int32} {a1 a2 a3 a4 a5 a6 a7 a8 a9 a10 a11 a12 a13 a14 a15 a16 a17 : Nat → Int32} {l : Nat} {O A B C : Nat → Nat} {K : Nat → Nat} {lv : Nat → Bool} {bl : Nat → List gc_I}
    (hs : gc_src l O A B C a1 a2 a3 a4) (hF : gc_FP l O A B C a6)
    (hP : ∀ i, i < l → ∀ u v, u < 8 → v < 8 → u ≠ v → gc_wr (O i) (A i) v → gc_aft l (O i) (A i) (B i) (C i) a6 i u → K u < 3 → K u ≠ K v)
    (hlv : ∀ i, i < l → (lv i = true ↔ gc_aft l (O i) (A i) (B i) (C i) a6 i (A i)))
    (ebl : ∀ i, bl i = gc_blk K (O i) (A i) (B i) (C i) (a3 i) (lv i)) (hc : gc_code l bl a10 a11 a12 a13 a14)
    {s i : Nat} {e : Nat → Int32} {t : List Int32} (hst : s + 4 < 2000) (hi : i < l) (h10 : O i ≠ 10) (hrel : ∀ v, v < 8 → gc_la l a6 i v → gc_lo K a15 a16 v = e v) (ht : t.length < 1000) (hpv : gc_pv t a17)
    (H : ∀ k b15 b16 b17, k ≤ 4 → (∀ v, v < 8 → gc_aft l (O i) (A i) (B i) (C i) a6 i v → gc_lo K b15 b16 v = gc_env (O i) (A i) (B i) (C i) (a3 i) e v) → gc_pv (gc_pt (O i) (A i) e t) b17 →
      wX_run_119 post (2001 - (s + k)) (nI (s + k)) (nI l) cm ce (nI (gc_E bl (min (gc_nx (O i) (A i) (B i) (C i) i e) l))) fl 0 ec (nI (gc_pt (O i) (A i) e t).length) a1 a2 a3 a4 a5 a6 a7 a8 a9 a10 a11 a12 a13 a14 b15 b16 b17) :
    wX_run_119 post (2001 - s) (nI s) (nI l) cm ce (nI (gc_E bl i + 1)) fl 0 ec (nI t.length) a1 a2 a3 a4 a5 a6 a7 a8 a9 a10 a11 a12 a13 a14 a15 a16 a17 := by
  have hl := hs.1
  have hbl : ∀ j, (bl j).length ≤ 4 := fun j => by rw [ebl]; exact gc_blk_le _ _ _ _ _ _ _
  have hE := gc_E_le hbl i
  have cl := (hc.1 i hi).2
  have hent := hc.2.2
  have hok := hs.2 i hi
  have hEs : gc_E bl (i + 1) = gc_E bl i + 1 + (bl i).length := rfl
  have hmn : min (i + 1) l = i + 1 := by omega
  have hPi := hP i hi
  have hli := hlv i hi
  have hFi : ∀ v, v < 8 → gc_F l (O i) (A i) (B i) (C i) a6 i v → gc_lo K a15 a16 v = e v := fun v hv h => hrel v hv ⟨hi, hF i v hi h⟩
  have hbi := ebl i
  clear hc hF hP hlv ebl hs hrel
  generalize O i = o at *
  generalize A i = a at *
  generalize B i = b at *
  generalize C i = c at *
  generalize lv i = v1 at *
  have hr : ∀ v, gc_rd o a b c v → v < 8 := fun v h => gc_rd_8 hok h
  obtain ⟨h1, h2, h3, h4, h5, h6, h7, h8, h9⟩ := hok
  by_cases o5 : o ≤ 5
  · have nx : gc_nx o a b c i e = i + 1 := by unfold gc_nx; rw [if_neg (by omega), if_neg (by omega), if_neg (by omega)]
    have pt : gc_pt o a e t = t := by unfold gc_pt; rw [if_neg (by omega)]
    have ha : a < 8 := by have := h5 (by omega) (by omega); omega
    rw [nx, pt, hmn, hEs] at H
    have hq : ∀ v, v < 8 → v ≠ a → gc_aft l o a b c a6 i v → gc_lo K a15 a16 v = e v := fun v hv hn hx => hFi v hv (Or.inr ⟨hx, fun z => hn z.2⟩)
    cases v1
    · have eb : bl i = [] := by rw [hbi]; unfold gc_blk; rw [if_pos o5, if_neg (by decide)]
      rw [eb] at H
      refine H 0 a15 a16 a17 (by omega) (fun v hv hx => ?_) hpv
      have hn : v ≠ a := by
        intro z
        rw [z] at hx
        exact absurd (hli.mpr hx) (by decide)
      unfold gc_env
      rw [if_pos o5, pk_un hn]
      exact hq v hv hn hx
    · have eb : bl i = gc_as K o a b c (a3 i) := by rw [hbi]; unfold gc_blk; rw [if_pos o5, if_pos rfl]
      rw [eb] at cl H
      refine gc_yA (P := fun v => gc_aft l o a b c a6 i v) (e := e) (by omega) (by omega) o5 ha ?_ ?_ cl ?_ (fun b15 b16 q => H _ b15 b16 a17 (gc_as_le _ _ _ _ _ _) q hpv)
      · intro z
        have r : gc_rd o a b c b := by unfold gc_rd; omega
        exact ⟨hr b r, hFi b (hr b r) (Or.inl r)⟩
      · intro z
        have r : gc_rd o a b c c := by unfold gc_rd; omega
        exact ⟨hr c r, hFi c (hr c r) (Or.inl r)⟩
      · intro v hv hn hx
        exact ⟨hq v hv hn hx, fun k3 => hPi v a hv ha hn ⟨o5, rfl⟩ hx k3⟩
  · have en : gc_env o a b c (a3 i) e = e := by unfold gc_env; rw [if_neg o5]
    have hq : ∀ v, v < 8 → gc_aft l o a b c a6 i v → gc_lo K a15 a16 v = e v := fun v hv hx => hFi v hv (Or.inr ⟨hx, fun z => o5 z.1⟩)
    rw [en] at H
    by_cases o7 : o = 7
    · have nx : gc_nx o a b c i e = a := by unfold gc_nx; rw [if_pos o7]
      have pt : gc_pt o a e t = t := by unfold gc_pt; rw [if_neg (by omega)]
      have eb : bl i = [(7, 0, nI a, 0)] := by rw [hbi]; unfold gc_blk; rw [if_neg o5, if_pos o7]
      have ha := h4 o7
      rw [nx, pt] at H
      rw [eb] at cl
      refine gc_xJ (z := 0) (by omega) (by omega) cl.1 (by omega) ?_
      rw [hent a (by omega)]
      exact H 1 a15 a16 a17 (by omega) hq hpv
    · have eb : bl i = gc_fl K a 3 ++ [gc_ot K o a b c] := by rw [hbi]; unfold gc_blk; rw [if_neg o5, if_neg o7, if_neg h10]
      have ha := h5 o7 h10
      have l1 := gc_fl_le K a 3
      have fl := gc_fr_lt (K := K) (v := a) (s := 3) (by omega)
      have hlen : (bl i).length = (gc_fl K a 3).length + 1 := by rw [eb, List.length_append, List.length_singleton]
      rw [eb] at cl
      obtain ⟨c1, c2⟩ := gc_CL_spl _ _ cl
      have rda : gc_rd o a b c a := by unfold gc_rd; omega
      refine gc_yF (by omega) (by omega) (by omega) (by omega) c1 (fun b15 q1 q2 => ?_)
      rw [hFi a (by omega) (Or.inl rda)] at q1
      have hq2 : ∀ v, v < 8 → gc_aft l o a b c a6 i v → gc_lo K b15 a16 v = e v := fun v hv hx => by rw [gc_lo_c (Nat.le_refl 3) q2]; exact hq v hv hx
      have hnext : gc_E bl i + 1 + (gc_fl K a 3).length + 1 = gc_E bl (i + 1) := by rw [hEs, hlen]; omega
      have hK := H ((gc_fl K a 3).length + 1) b15 a16
      rw [← Nat.add_assoc] at hK
      by_cases o6 : o = 6
      · have nx : gc_nx o a b c i e = i + 1 := by unfold gc_nx; rw [if_neg (by omega), if_neg (by omega), if_neg (by omega)]
        have pt : gc_pt o a e t = t ++ [e a] := by unfold gc_pt; rw [if_pos o6]
        have eo : gc_ot K o a b c = (6, nI (gc_fr K a 3), 0, 0) := by unfold gc_ot; rw [if_pos o6]
        rw [eo] at c2
        rw [nx, pt, hmn, ← q1] at hK
        refine gc_xW (y := 0) (z := 0) (by omega) (by omega) c2.1 fl ht hpv (fun b17 q3 => ?_)
        rw [hnext]
        exact hK b17 (by omega) hq2 q3
      · have pt : gc_pt o a e t = t := by unfold gc_pt; rw [if_neg o6]
        rw [pt] at hK
        by_cases o8 : o = 8
        · have hb := (h8 (by omega) (by omega)).2
          have eo : gc_ot K o a b c = (8, nI (gc_fr K a 3), nI b, 0) := by unfold gc_ot; rw [if_neg o6, if_pos o8]
          rw [eo] at c2
          have nx : gc_nx o a b c i e = if e a = 0 then i + 1 else b := by unfold gc_nx; rw [if_neg o7, if_pos o8]
          rw [nx] at hK
          refine gc_xI (z := 0) (by omega) (by omega) c2.1 fl (by omega) (fun e0 => ?_) (fun e0 => ?_)
          · rw [q1] at e0
            rw [if_pos e0, hmn] at hK
            rw [hnext]
            exact hK a17 (by omega) hq2 hpv
          · rw [q1] at e0
            rw [if_neg e0] at hK
            rw [hent b (by omega)]
            exact hK a17 (by omega) hq2 hpv
        · have hb := (h8 (by omega) (by omega)).2
          have hcc := (h9 (by omega)).2
          have eo : gc_ot K o a b c = (9, nI (gc_fr K a 3), nI b, nI c) := by unfold gc_ot; rw [if_neg o6, if_neg o8]
          rw [eo] at c2
          have nx : gc_nx o a b c i e = if e a < 0 ∨ nI c ≤ e a then i + 1 else b + (e a).toNatClampNeg := by unfold gc_nx; rw [if_neg o7, if_neg o8, if_pos (by omega)]
          rw [nx] at hK
          refine gc_xS (by omega) (by omega) c2.1 fl (by omega) hcc (fun e0 => ?_) (fun k hk e0 => ?_)
          · rw [q1] at e0
            rw [if_pos e0, hmn] at hK
            rw [hnext]
            exact hK a17 (by omega) hq2 hpv
          · rw [q1] at e0
            have en0 : ¬ (e a < 0 ∨ nI c ≤ e a) := by
              rw [e0]
              intro z
              rcases z with z | z
              · exact nI_pos (by omega) z
              · exact nI_ge hk (by omega) z
            rw [if_neg en0, e0, gc_cl (by omega)] at hK
            rw [hent (b + k) (by omega)]
            exact hK a17 (by omega) hq2 hpv
theorem gc_nx_la {l o a b c i v : Nat} {a6 : Nat → Int32} {e : Nat → Int32} (h10 : o ≠ 10) (h : gc_la l a6 (gc_nx o a b c i e) v) : gc_aft l o a b c a6 i v := by
  unfold gc_nx at h
  by_cases o7 : o = 7
  · rw [if_pos o7] at h
    exact Or.inl ⟨o7, h⟩
  · refine Or.inr ⟨o7, h10, ?_⟩
    rw [if_neg o7] at h
    by_cases o8 : o = 8
    · rw [if_pos o8] at h
      split at h
      · exact Or.inl h
      · exact Or.inr (Or.inl ⟨o8, h⟩)
    · rw [if_neg o8] at h
      by_cases o9 : o = 9
      · rw [if_pos o9] at h
        split at h
        · exact Or.inl h
        · rename_i hn
          refine Or.inr (Or.inr ⟨o9, _, ?_, h⟩)
          have n1 : ¬ e a < 0 := fun z => hn (Or.inl z)
          obtain ⟨k, hk, ek⟩ := nI_of n1
          rw [ek, nI_clamp hk]
          apply Nat.lt_of_not_le
          intro z
          apply hn
          rw [ek]
          exact Or.inr (nI_le z hk)
      · rw [if_neg o9] at h
        exact Or.inl h
theorem gc_sim {post : Int32 → St1 → Prop} {cm ce : Int32} {a1 a2 a3 a4 a5 a6 a7 a8 a9 a10 a11 a12 a13 a14 : Nat → Int32} {l : Nat} {O A B C : Nat → Nat} {K : Nat → Nat} {lv : Nat → Bool} {bl : Nat → List gc_I}
    (hs : gc_src l O A B C a1 a2 a3 a4) (hF : gc_FP l O A B C a6)
    (hP : ∀ i, i < l → ∀ u v, u < 8 → v < 8 → u ≠ v → gc_wr (O i) (A i) v → gc_aft l (O i) (A i) (B i) (C i) a6 i u → K u < 3 → K u ≠ K v)
    (hlv : ∀ i, i < l → (lv i = true ↔ gc_aft l (O i) (A i) (B i) (C i) a6 i (A i)))
    (ebl : ∀ i, bl i = gc_blk K (O i) (A i) (B i) (C i) (a3 i) (lv i)) (hc : gc_code l bl a10 a11 a12 a13 a14) {r0 x0 : Nat} {t0 : List Int32}
    (H : ∀ pl fl oc a15 a16 a17, gc_pv t0 a17 → post (nI r0) (nI l, cm, ce, pl, fl, oc, nI x0, nI t0.length, a1, a2, a3, a4, a5, a6, a7, a8, a9, a10, a11, a12, a13, a14, a15, a16, a17)) :
    ∀ (f i : Nat) (e : Nat → Int32) (x : Nat) (t : List Int32) (s : Nat) (a15 a16 a17 : Nat → Int32), f < 900 → t.length + f < 900 → s + 5 * f < 1990 → (∀ v, v < 8 → gc_la l a6 i v → gc_lo K a15 a16 v = e v) → gc_pv t a17 → gc_sr l O A B C a3 f i e x t = (r0, x0, t0) →
      wX_run_119 post (2001 - s) (nI s) (nI l) cm ce (nI (gc_E bl (min i l))) (nI f) 0 (nI x) (nI t.length) a1 a2 a3 a4 a5 a6 a7 a8 a9 a10 a11 a12 a13 a14 a15 a16 a17 := by
  have hl := hs.1
  have hbl : ∀ j, (bl j).length ≤ 4 := fun j => by rw [ebl]; exact gc_blk_le _ _ _ _ _ _ _
  have fin : ∀ (fl : Int32) (i x : Nat) (t : List Int32) (s : Nat) (a15 a16 a17 : Nat → Int32), l ≤ i → s < 1999 → gc_pv t a17 → (1, x, t) = (r0, x0, t0) → wX_run_119 post (2001 - s) (nI s) (nI l) cm ce (nI (gc_E bl (min i l))) fl 0 (nI x) (nI t.length) a1 a2 a3 a4 a5 a6 a7 a8 a9 a10 a11 a12 a13 a14 a15 a16 a17 := by
    intro fl i x t s a15 a16 a17 hi hs2 hpv hR
    have hE := gc_E_le hbl l
    rw [Prod.mk.injEq, Prod.mk.injEq] at hR
    obtain ⟨e1, e2, e3⟩ := hR
    subst e1 e2 e3
    rw [show min i l = l by omega]
    exact gc_xH (w := 0) (y := 0) (z := 0) hs2 (by omega) hc.2.1.1 (H _ _ _ _ _ _ hpv)
  intro f
  induction f with
  | zero =>
    intro i e x t s a15 a16 a17 hf ht hs2 hrel hpv hR
    have hR2 : (if l ≤ i then (1, x, t) else (2, x, t)) = (r0, x0, t0) := hR
    by_cases hi : l ≤ i
    · rw [if_pos hi] at hR2
      exact fin _ i x t s a15 a16 a17 hi (by omega) hpv hR2
    · rw [if_neg hi, Prod.mk.injEq, Prod.mk.injEq] at hR2
      obtain ⟨e1, e2, e3⟩ := hR2
      subst e1 e2 e3
      have hE := gc_E_le hbl i
      rw [show min i l = i by omega]
      exact gc_xT0 (w := 0) (y := 0) (z := 0) (by omega) (by omega) (hc.1 i (by omega)).1 (H _ _ _ _ _ _ hpv)
  | succ f ih =>
    intro i e x t s a15 a16 a17 hf ht hs2 hrel hpv hR
    have hR2 : (if l ≤ i then (1, x, t) else if O i = 10 then (1, x + 1, t) else gc_sr l O A B C a3 f (gc_nx (O i) (A i) (B i) (C i) i e) (gc_env (O i) (A i) (B i) (C i) (a3 i) e) (x + 1) (gc_pt (O i) (A i) e t)) = (r0, x0, t0) := hR
    by_cases hi : l ≤ i
    · rw [if_pos hi] at hR2
      exact fin _ i x t s a15 a16 a17 hi (by omega) hpv hR2
    · rw [if_neg hi] at hR2
      have hi' : i < l := by omega
      have hE := gc_E_le hbl i
      rw [show min i l = i by omega]
      refine gc_xT (w := 0) (y := 0) (z := 0) (by omega) (by omega) (hc.1 i hi').1 (by omega) ?_
      by_cases h10 : O i = 10
      · rw [if_pos h10, Prod.mk.injEq, Prod.mk.injEq] at hR2
        obtain ⟨e1, e2, e3⟩ := hR2
        subst e1 e2 e3
        have eb : bl i = [(10, 0, 0, 0)] := by rw [ebl]; unfold gc_blk; rw [if_neg (by omega), if_neg (by omega), if_pos h10]
        have cl := (hc.1 i hi').2
        rw [eb] at cl
        exact gc_xH (w := 0) (y := 0) (z := 0) (by omega) (by omega) cl.1 (H _ _ _ _ _ _ hpv)
      · rw [if_neg h10] at hR2
        refine gc_block hs hF hP hlv ebl hc (e := e) (by omega) hi' h10 hrel (by omega) hpv (fun k b15 b16 b17 hk q1 q2 => ?_)
        refine ih _ _ (x + 1) _ (s + 1 + k) b15 b16 b17 (by omega) ?_ (by omega) ?_ q2 hR2
        · unfold gc_pt
          split
          · rw [List.length_append, List.length_singleton]; omega
          · omega
        · intro v hv hx
          exact q1 v hv (gc_nx_la h10 hx)
end
section
/-! run -/
/-- an object of source l O A B C, constants V, start values W -/
def gc_ob (l : Nat) (O A B C : Nat → Nat) (V W : Nat → Int32) (u : St1) : Prop := match u with
  | (ln, cm, ce, pl, fl, oc, ec, pc, a1, a2, a3, a4, a5, a6, a7, a8, a9, a10, a11, a12, a13, a14, a15, a16, a17) => ln = nI l ∧ gc_src l O A B C a1 a2 a3 a4 ∧ a3 = V ∧ a5 = W ∧ (cm = 0 ∨ gc_cmp l O A B C a3 a6 a8 a10 a11 a12 a13 a14)
/-- what a run has left -/
def gc_ra (x : Nat) (t : List Int32) (u : St1) : Prop := match u with
  | (ln, cm, ce, pl, fl, oc, ec, pc, a1, a2, a3, a4, a5, a6, a7, a8, a9, a10, a11, a12, a13, a14, a15, a16, a17) => ec = nI x ∧ pc = nI t.length ∧ gc_pv t a17
theorem gc_r52 {post : Int32 → St1 → Prop} {cm ce pl fl oc ec pc : Int32} {a1 a2 a3 a4 a5 a6 a7 a8 a9 a10 a11 a12 a13 a14 a15 a16 a17 : Nat → Int32} {l : Nat} {K : Nat → Nat} (hl : l ≤ 32) (hK : gc_K K a8)
    (hP : ∀ u v, u < 8 → v < 8 → u ≠ v → gc_la l a6 0 v → gc_la l a6 0 u → K u < 3 → K u ≠ K v)
    (H : ∀ b15 b16, (∀ v, v < 8 → gc_la l a6 0 v → gc_lo K b15 b16 v = a5 v) → ∃ n, wX_run_119 post n 0 (nI l) cm ce pl fl oc ec pc a1 a2 a3 a4 a5 a6 a7 a8 a9 a10 a11 a12 a13 a14 b15 b16 a17) :
    ∃ n, wX_run_52 post (nI l) cm ce pl fl oc ec pc n 0 a1 a2 a3 a4 a5 a6 a7 a8 a9 a10 a11 a12 a13 a14 a15 a16 a17 := by
  refine pk_loop (fun n k (s : (Nat → Int32) × (Nat → Int32)) => wX_run_52 post (nI l) cm ce pl fl oc ec pc n (nI k) a1 a2 a3 a4 a5 a6 a7 a8 a9 a10 a11 a12 a13 a14 s.1 s.2 a17) (fun k s => ∀ v, v < k → gc_la l a6 0 v → gc_lo K s.1 s.2 v = a5 v) 8 0 (a15, a16) (by omega) (fun v hv => absurd hv (by omega)) ?_ ?_
  · intro n s h
    exact pk_le 8 8 (fun _ => H s.1 s.2 h) (fun z => absurd z (by omega))
  · intro n k s hk h hw
    obtain ⟨b15, b16⟩ := s
    dsimp only at h hw ⊢
    have ck : (nI k).toNatClampNeg = k := gc_cl (by omega)
    obtain ⟨k0, k1, k2⟩ := hK k hk
    refine pk_le 8 k (fun z => absurd z (by omega)) (fun _ => ⟨pk_in k 8 hk, ?_⟩)
    rw [ck]
    by_cases k3 : K k < 3
    · rw [k1 k3]
      refine br_t (nI_pos' (by omega)) ?_
      refine gc_liveAt (j := 0) hl (by omega) (fun r hr => gc_tstB (by omega) (fun e => nm_r (nI_1 k) (hw (b15, b16) ?_)) (fun e => ⟨pk_in k 8 hk, pk_in k 8 hk, pk_in (K k) 6 (by omega), ?_⟩))
      · intro v hv hx
        by_cases ev : v = k
        · rw [ev, ← hr, e] at hx
          cases hx
        · exact h v (by omega) hx
      · rw [gc_cl (show K k < 1000 by omega)]
        refine nm_e (nm_r (nI_1 k) (hw (upd b15 (K k) (a5 k), b16) ?_))
        intro v hv hx
        dsimp only
        by_cases ev : v = k
        · rw [ev, gc_lo_t k3, pk_us]
        · rw [← h v (by omega) hx]
          by_cases kv : K v < 3
          · rw [gc_lo_t kv, gc_lo_t kv, pk_un]
            exact hP v k (by omega) hk ev ((hr k).mp e) hx kv
          · rw [gc_lo_f kv, gc_lo_f kv]
    · rw [k2 (by omega)]
      refine br_f (by decide) ⟨pk_in k 8 hk, pk_in k 8 hk, nm_e (nm_r (nI_1 k) (hw (b15, upd b16 k (a5 k)) ?_))⟩
      intro v hv hx
      dsimp only
      by_cases ev : v = k
      · rw [ev, gc_lo_f k3, pk_us]
      · rw [← h v (by omega) hx]
        by_cases kv : K v < 3
        · rw [gc_lo_t kv, gc_lo_t kv]
        · rw [gc_lo_f kv, gc_lo_f kv, pk_un ev]
theorem gc_run {post : Int32 → St1 → Prop} {l : Nat} {O A B C : Nat → Nat} {V W : Nat → Int32} {u : St1} (hu : gc_ob l O A B C V W u) {f : Nat} (hf : f < 1000) {r x : Nat} {t : List Int32}
    (hR : gc_sr l O A B C V (min f 250) 0 W 0 [] = (r, x, t)) (H : ∀ v, gc_ob l O A B C V W v → gc_ra x t v → post (nI r) v) : wpX_run post u (nI f) := by
  obtain ⟨ln, cm, ce, pl, fl, oc, ec, pc, a1, a2, a3, a4, a5, a6, a7, a8, a9, a10, a11, a12, a13, a14, a15, a16, a17⟩ := u
  obtain ⟨rfl, hs, rfl, rfl, hc⟩ := hu
  refine gc_compile hs hc (fun dm de b6 b7 b8 b9 b10 b11 b12 b13 b14 hcm => ?_)
  obtain ⟨K, lv, c1, c2, c3, c4, c5, c6, c7⟩ := id hcm
  have m : ∀ g, g ≤ 250 → g = min f 250 → wX_run_27 post (nI g) (nI l) dm de pl fl oc ec pc a1 a2 a3 a4 a5 b6 b7 b8 b9 b10 b11 b12 b13 b14 a15 a16 a17 := by
    intro g hg eg
    rw [← eg] at hR
    refine gc_r52 hs.1 c1 c4 (fun b15 b16 hrel => ⟨2001, ?_⟩)
    have g0 := gc_sim (post := post) (cm := dm) (ce := de) (a5 := a5) (a7 := b7) (a8 := b8) (a9 := b9) hs c3 c5 c6 (fun _ => rfl) c7 (r0 := r) (x0 := x) (t0 := t) (fun pl fl oc a15 a16 a17 hpv => H _ ⟨rfl, hs, rfl, rfl, Or.inr hcm⟩ ⟨rfl, rfl, hpv⟩) g 0 a5 0 [] 0 b15 b16 a17 (by omega) (by show 0 + g < 900; omega) (by omega) hrel (fun k _ hk => absurd hk (Nat.not_lt_zero _)) hR
    rw [Nat.zero_min] at g0
    exact g0
  refine br_t (nI_pos' (by omega)) (pk_le f 250 (fun h => m f h (by omega)) (fun h => m 250 (Nat.le_refl _) (by omega)))
end
section
/-! the source's meaning grows with its fuel -/
theorem gc_sr_bd {l : Nat} {O A B C : Nat → Nat} {V : Nat → Int32} : ∀ (f i : Nat) (e : Nat → Int32) (x : Nat) (t : List Int32) (r y : Nat) (w : List Int32), gc_sr l O A B C V f i e x t = (r, y, w) →
    (r = 1 ∨ r = 2) ∧ x ≤ y ∧ y ≤ x + f ∧ w.length + x ≤ t.length + y ∧ ∃ z, w = t ++ z := by
  intro f
  induction f with
  | zero =>
    intro i e x t r y w h
    have h2 : (if l ≤ i then (1, x, t) else (2, x, t)) = (r, y, w) := h
    split at h2
    · rw [Prod.mk.injEq, Prod.mk.injEq] at h2
      obtain ⟨e1, e2, e3⟩ := h2
      subst e1 e2 e3
      exact ⟨Or.inl rfl, Nat.le_refl _, Nat.le_refl _, Nat.le_refl _, [], (List.append_nil _).symm⟩
    · rw [Prod.mk.injEq, Prod.mk.injEq] at h2
      obtain ⟨e1, e2, e3⟩ := h2
      subst e1 e2 e3
      exact ⟨Or.inr rfl, Nat.le_refl _, Nat.le_refl _, Nat.le_refl _, [], (List.append_nil _).symm⟩
  | succ f ih =>
    intro i e x t r y w h
    have h2 : (if l ≤ i then (1, x, t) else if O i = 10 then (1, x + 1, t) else gc_sr l O A B C V f (gc_nx (O i) (A i) (B i) (C i) i e) (gc_env (O i) (A i) (B i) (C i) (V i) e) (x + 1) (gc_pt (O i) (A i) e t)) = (r, y, w) := h
    split at h2
    · rw [Prod.mk.injEq, Prod.mk.injEq] at h2
      obtain ⟨e1, e2, e3⟩ := h2
      subst e1 e2 e3
      exact ⟨Or.inl rfl, by omega, by omega, by omega, [], (List.append_nil _).symm⟩
    · split at h2
      · rw [Prod.mk.injEq, Prod.mk.injEq] at h2
        obtain ⟨e1, e2, e3⟩ := h2
        subst e1 e2 e3
        exact ⟨Or.inl rfl, by omega, by omega, by omega, [], (List.append_nil _).symm⟩
      · obtain ⟨k1, k2, k3, k4, z, k5⟩ := ih _ _ _ _ _ _ _ h2
        unfold gc_pt at k4 k5
        split at k5
        · rename_i o6
          rw [if_pos o6, List.length_append, List.length_singleton] at k4
          rw [List.append_assoc] at k5
          exact ⟨k1, by omega, by omega, by omega, _, k5⟩
        · rename_i o6
          rw [if_neg o6] at k4
          exact ⟨k1, by omega, by omega, by omega, _, k5⟩
theorem gc_sr_le {l : Nat} {O A B C : Nat → Nat} {V : Nat → Int32} : ∀ (f g i : Nat) (e : Nat → Int32) (x : Nat) (t : List Int32) (r y : Nat) (w : List Int32) (r' y' : Nat) (w' : List Int32), f ≤ g → gc_sr l O A B C V f i e x t = (r, y, w) → gc_sr l O A B C V g i e x t = (r', y', w') →
    (r = 1 ∧ r' = 1 ∧ y' = y ∧ w' = w) ∨ (r = 2 ∧ y ≤ y' ∧ ∃ z, w' = w ++ z) := by
  intro f
  induction f with
  | zero =>
    intro g i e x t r y w r' y' w' _ h k
    have h2 : (if l ≤ i then (1, x, t) else (2, x, t)) = (r, y, w) := h
    by_cases hi : l ≤ i
    · rw [if_pos hi, Prod.mk.injEq, Prod.mk.injEq] at h2
      obtain ⟨e1, e2, e3⟩ := h2
      have k2 : (1, x, t) = (r', y', w') := by
        rw [← k]
        cases g with
        | zero => exact (if_pos hi).symm
        | succ g => exact (if_pos hi).symm
      rw [Prod.mk.injEq, Prod.mk.injEq] at k2
      obtain ⟨d1, d2, d3⟩ := k2
      exact Or.inl ⟨e1.symm, d1.symm, by omega, by rw [← d3, ← e3]⟩
    · rw [if_neg hi, Prod.mk.injEq, Prod.mk.injEq] at h2
      obtain ⟨e1, e2, e3⟩ := h2
      obtain ⟨_, k2, _, _, z, k5⟩ := gc_sr_bd _ _ _ _ _ _ _ _ k
      exact Or.inr ⟨e1.symm, by omega, z, by rw [← e3]; exact k5⟩
  | succ f ih =>
    intro g i e x t r y w r' y' w' hg h k
    obtain ⟨g, rfl⟩ : ∃ g', g = g' + 1 := ⟨g - 1, by omega⟩
    have h2 : (if l ≤ i then (1, x, t) else if O i = 10 then (1, x + 1, t) else gc_sr l O A B C V f (gc_nx (O i) (A i) (B i) (C i) i e) (gc_env (O i) (A i) (B i) (C i) (V i) e) (x + 1) (gc_pt (O i) (A i) e t)) = (r, y, w) := h
    have k2 : (if l ≤ i then (1, x, t) else if O i = 10 then (1, x + 1, t) else gc_sr l O A B C V g (gc_nx (O i) (A i) (B i) (C i) i e) (gc_env (O i) (A i) (B i) (C i) (V i) e) (x + 1) (gc_pt (O i) (A i) e t)) = (r', y', w') := k
    by_cases hi : l ≤ i
    · rw [if_pos hi, Prod.mk.injEq, Prod.mk.injEq] at h2 k2
      obtain ⟨e1, e2, e3⟩ := h2
      obtain ⟨d1, d2, d3⟩ := k2
      exact Or.inl ⟨e1.symm, d1.symm, by omega, by rw [← d3, ← e3]⟩
    · rw [if_neg hi] at h2 k2
      by_cases h10 : O i = 10
      · rw [if_pos h10, Prod.mk.injEq, Prod.mk.injEq] at h2 k2
        obtain ⟨e1, e2, e3⟩ := h2
        obtain ⟨d1, d2, d3⟩ := k2
        exact Or.inl ⟨e1.symm, d1.symm, by omega, by rw [← d3, ← e3]⟩
      · rw [if_neg h10] at h2 k2
        exact ih g _ _ _ _ _ _ _ _ _ _ (by omega) h2 k2
/-! the methods: printed answers, more -/
theorem gc_output {post : Int32 → Prop} {ln cm ce pl fl oc ec : Int32} {a1 a2 a3 a4 a5 a6 a7 a8 a9 a10 a11 a12 a13 a14 a15 a16 a17 : Nat → Int32} {t : List Int32} {k : Nat} (hk : k < 32) (hkt : k < t.length) (ht : t.length < 1000) (hv : gc_pv t a17) (H : post (t.getD k 0)) : wpX_output post (ln, cm, ce, pl, fl, oc, ec, nI t.length, a1, a2, a3, a4, a5, a6, a7, a8, a9, a10, a11, a12, a13, a14, a15, a16, a17) (nI k) := by
  rw [← hv k hk hkt] at H
  refine br_f (nI_pos (by omega)) (pk_le t.length k (fun z => absurd z (by omega)) (fun _ => pk_lt k 32 (fun _ => ⟨pk_in k 32 hk, ?_⟩) (fun z => absurd z (by omega))))
  rw [gc_cl (by omega)]
  exact H
theorem gc_more {post : Int32 → St3 → Prop} {xln xcm xce xpl xfl xoc xec xpc : Int32} {xa1 xa2 xa3 xa4 xa5 xa6 xa7 xa8 xa9 xa10 xa11 xa12 xa13 xa14 xa15 xa16 xa17 : Nat → Int32} {yln ycm yce ypl yfl yoc yec ypc : Int32} {ya1 ya2 ya3 ya4 ya5 ya6 ya7 ya8 ya9 ya10 ya11 ya12 ya13 ya14 ya15 ya16 ya17 : Nat → Int32} {l : Nat} {O A B C : Nat → Nat} {V W : Nat → Int32} (hx : gc_ob l O A B C V W (xln, xcm, xce, xpl, xfl, xoc, xec, xpc, xa1, xa2, xa3, xa4, xa5, xa6, xa7, xa8, xa9, xa10, xa11, xa12, xa13, xa14, xa15, xa16, xa17)) (hy : gc_ob l O A B C V W (yln, ycm, yce, ypl, yfl, yoc, yec, ypc, ya1, ya2, ya3, ya4, ya5, ya6, ya7, ya8, ya9, ya10, ya11, ya12, ya13, ya14, ya15, ya16, ya17)) {f g : Nat} (hf : f < 1000) (hg : g < 1000) (hfg : min f 250 ≤ min g 250)
    (H : ∀ (pln pcm pce ppl pfl poc pec ppc : Int32) (pa1 pa2 pa3 pa4 pa5 pa6 pa7 pa8 pa9 pa10 pa11 pa12 pa13 pa14 pa15 pa16 pa17 : Nat → Int32) (qln qcm qce qpl qfl qoc qec qpc : Int32) (qa1 qa2 qa3 qa4 qa5 qa6 qa7 qa8 qa9 qa10 qa11 qa12 qa13 qa14 qa15 qa16 qa17 : Nat → Int32), gc_ob l O A B C V W (pln, pcm, pce, ppl, pfl, poc, pec, ppc, pa1, pa2, pa3, pa4, pa5, pa6, pa7, pa8, pa9, pa10, pa11, pa12, pa13, pa14, pa15, pa16, pa17) → gc_ob l O A B C V W (qln, qcm, qce, qpl, qfl, qoc, qec, qpc, qa1, qa2, qa3, qa4, qa5, qa6, qa7, qa8, qa9, qa10, qa11, qa12, qa13, qa14, qa15, qa16, qa17) → post 1 (pln, pcm, pce, ppl, pfl, poc, pec, ppc, pa1, pa2, pa3, pa4, pa5, pa6, pa7, pa8, pa9, pa10, pa11, pa12, pa13, pa14, pa15, pa16, pa17, qln, qcm, qce, qpl, qfl, qoc, qec, qpc, qa1, qa2, qa3, qa4, qa5, qa6, qa7, qa8, qa9, qa10, qa11, qa12, qa13, qa14, qa15, qa16, qa17)) : wpL_more post (xln, xcm, xce, xpl, xfl, xoc, xec, xpc, xa1, xa2, xa3, xa4, xa5, xa6, xa7, xa8, xa9, xa10, xa11, xa12, xa13, xa14, xa15, xa16, xa17, yln, ycm, yce, ypl, yfl, yoc, yec, ypc, ya1, ya2, ya3, ya4, ya5, ya6, ya7, ya8, ya9, ya10, ya11, ya12, ya13, ya14, ya15, ya16, ya17) (nI f) (nI g) := by
  obtain ⟨r, x1, t1, hR⟩ : ∃ r x t, gc_sr l O A B C V (min f 250) 0 W 0 [] = (r, x, t) := ⟨_, _, _, rfl⟩
  obtain ⟨q, x2, t2, hQ⟩ : ∃ r x t, gc_sr l O A B C V (min g 250) 0 W 0 [] = (r, x, t) := ⟨_, _, _, rfl⟩
  obtain ⟨_, _, b1, b2, _⟩ := gc_sr_bd _ _ _ _ _ _ _ _ hR
  obtain ⟨_, _, d1, d2, _⟩ := gc_sr_bd _ _ _ _ _ _ _ _ hQ
  have n0 : ([] : List Int32).length = 0 := rfl
  have cmp := gc_sr_le _ _ _ _ _ _ _ _ _ _ _ _ hfg hR hQ
  have hyx : x1 ≤ x2 := by
    rcases cmp with ⟨_, _, c, _⟩ | ⟨_, c, _⟩ <;> omega
  have hpx : ∃ z, t2 = t1 ++ z := by
    rcases cmp with ⟨_, _, _, c⟩ | ⟨_, _, c⟩
    · exact ⟨[], by rw [c, List.append_nil]⟩
    · exact c
  obtain ⟨z, hz⟩ := hpx
  have hzl : t2.length = t1.length + z.length := by rw [hz, List.length_append]
  refine gc_run hx hf hR (fun u hu1 hu2 => ?_)
  obtain ⟨pln, pcm, pce, ppl, pfl, poc, pec, ppc, pa1, pa2, pa3, pa4, pa5, pa6, pa7, pa8, pa9, pa10, pa11, pa12, pa13, pa14, pa15, pa16, pa17⟩ := u
  refine gc_run hy hg hQ (fun u hv1 hv2 => ?_)
  obtain ⟨qln, qcm, qce, qpl, qfl, qoc, qec, qpc, qa1, qa2, qa3, qa4, qa5, qa6, qa7, qa8, qa9, qa10, qa11, qa12, qa13, qa14, qa15, qa16, qa17⟩ := u
  obtain ⟨ep1, ep2, hpv⟩ := hu2
  obtain ⟨eq1, eq2, hqv⟩ := hv2
  subst ep1 ep2 eq1 eq2
  refine pk_lt t2.length t1.length (fun z => absurd z (by omega)) (fun _ => pk_le x1 x2 (fun _ => ?_) (fun z => absurd z (by omega)))
  refine pk_loop (σ := Unit) (fun n k _ => wL_more_45 post (nI r) (nI q) (nI t1.length) pln pcm pce ppl pfl poc (nI x1) (nI t1.length) pa1 pa2 pa3 pa4 pa5 pa6 pa7 pa8 pa9 pa10 pa11 pa12 pa13 pa14 pa15 pa16 pa17 qln qcm qce qpl qfl qoc (nI x2) (nI t2.length) qa1 qa2 qa3 qa4 qa5 qa6 qa7 qa8 qa9 qa10 qa11 qa12 qa13 qa14 qa15 qa16 qa17 n (nI k)) (fun _ _ => True) 32 0 () (by omega) trivial ?_ ?_
  · intro n _ _
    refine pk_le 32 32 (fun _ => ?_) (fun z => absurd z (by omega))
    rcases cmp with ⟨c1, c2, c3, c4⟩ | ⟨c1, _⟩
    · subst c1 c2 c3 c4
      exact br_t rfl (br_t rfl (br_t rfl (br_t rfl (H pln pcm pce ppl pfl poc _ _ pa1 pa2 pa3 pa4 pa5 pa6 pa7 pa8 pa9 pa10 pa11 pa12 pa13 pa14 pa15 pa16 pa17 qln qcm qce qpl qfl qoc _ _ qa1 qa2 qa3 qa4 qa5 qa6 qa7 qa8 qa9 qa10 qa11 qa12 qa13 qa14 qa15 qa16 qa17 hu1 hv1))))
    · subst c1
      exact br_f (by decide) (br_t rfl (H pln pcm pce ppl pfl poc _ _ pa1 pa2 pa3 pa4 pa5 pa6 pa7 pa8 pa9 pa10 pa11 pa12 pa13 pa14 pa15 pa16 pa17 qln qcm qce qpl qfl qoc _ _ qa1 qa2 qa3 qa4 qa5 qa6 qa7 qa8 qa9 qa10 qa11 qa12 qa13 qa14 qa15 qa16 qa17 hu1 hv1))
  · intro n k _ hk _ hw
    refine pk_le 32 k (fun z => absurd z (by omega)) (fun _ => pk_le t1.length k (fun h => nm_r (nI_1 k) (hw () trivial)) (fun h => ?_))
    refine gc_output hk h (by omega) hpv (gc_output hk (by omega) (by omega) hqv (br_t ?_ (nm_r (nI_1 k) (hw () trivial))))
    rw [hz]
    simp [List.getD, List.getElem?_append_left h]
/-! start, emit, retract -/
theorem gc_isVar {post : Int32 → Prop} {ln cm ce pl fl oc ec pc : Int32} {a1 a2 a3 a4 a5 a6 a7 a8 a9 a10 a11 a12 a13 a14 a15 a16 a17 : Nat → Int32} {a : Nat} (ha : a ≤ 7) (H : post 1) : wpX_isVariable post (ln, cm, ce, pl, fl, oc, ec, pc, a1, a2, a3, a4, a5, a6, a7, a8, a9, a10, a11, a12, a13, a14, a15, a16, a17) (nI a) :=
  br_f (nI_pos (by omega)) (pk_lt 7 a (fun z => absurd z (by omega)) (fun _ => H))
theorem gc_isTar {post : Int32 → Prop} {ln cm ce pl fl oc ec pc : Int32} {a1 a2 a3 a4 a5 a6 a7 a8 a9 a10 a11 a12 a13 a14 a15 a16 a17 : Nat → Int32} {a : Nat} (ha : a ≤ 31) (H : post 1) : wpX_isTarget post (ln, cm, ce, pl, fl, oc, ec, pc, a1, a2, a3, a4, a5, a6, a7, a8, a9, a10, a11, a12, a13, a14, a15, a16, a17) (nI a) :=
  br_f (nI_pos (by omega)) (pk_lt 31 a (fun z => absurd z (by omega)) (fun _ => H))
theorem gc_start {post : Int32 → St1 → Prop} {l : Nat} {O A B C : Nat → Nat} {V W : Nat → Int32} {u : St1} (hu : gc_ob l O A B C V W u) {k : Nat} (hk : k < 8) {x : Int32} (H : ∀ v, gc_ob l O A B C V (upd W k x) v → post 1 v) : wpX_start post u (nI k) x := by
  obtain ⟨ln, cm, ce, pl, fl, oc, ec, pc, a1, a2, a3, a4, a5, a6, a7, a8, a9, a10, a11, a12, a13, a14, a15, a16, a17⟩ := u
  obtain ⟨e1, hs, e3, e5, hc⟩ := hu
  unfold wpX_start
  dsimp only
  refine gc_isVar (by omega) (br_f (by decide) ⟨pk_in k 8 hk, nm_e ?_⟩)
  rw [gc_cl (by omega)]
  refine H _ ⟨e1, hs, e3, ?_, hc⟩
  rw [e5]
theorem gc_fits {post : Int32 → Prop} {ln cm ce pl fl oc ec pc : Int32} {a1 a2 a3 a4 a5 a6 a7 a8 a9 a10 a11 a12 a13 a14 a15 a16 a17 : Nat → Int32} {o a b c : Nat} {y : Int32} (ho : o ≤ 10) (ha : a ≤ 31) (ha7 : o ≠ 7 → o ≠ 10 → a ≤ 7) (hb1 : 1 ≤ o → o ≤ 5 → y = nI b ∧ b ≤ 7) (hb2 : 8 ≤ o → o ≤ 9 → y = nI b ∧ b ≤ 31) (hc : c < 128) (hc1 : 2 ≤ o → o ≤ 5 → c ≤ 7) (hc9 : o = 9 → 1 ≤ c ∧ c ≤ 4)
    (H : post 1) : wpX_fits post (ln, cm, ce, pl, fl, oc, ec, pc, a1, a2, a3, a4, a5, a6, a7, a8, a9, a10, a11, a12, a13, a14, a15, a16, a17) (nI o) (nI a) y (nI c) := by
  have k87 : wX_fits_87 post (nI o) (nI c) ln cm ce pl fl oc ec pc a1 a2 a3 a4 a5 a6 a7 a8 a9 a10 a11 a12 a13 a14 a15 a16 a17 := pk_eq o 9 (fun e => pk_lt c 1 (fun z => absurd z (by have := hc9 e; omega)) (fun _ => pk_lt 4 c (fun z => absurd z (by have := hc9 e; omega)) (fun _ => H))) (fun _ => H)
  have k71 : o ≠ 10 → wX_fits_71 post (nI o) y (nI c) ln cm ce pl fl oc ec pc a1 a2 a3 a4 a5 a6 a7 a8 a9 a10 a11 a12 a13 a14 a15 a16 a17 := by
    intro e10
    refine pk_lt o 8 (fun _ => k87) (fun e => ?_)
    obtain ⟨e1, e2⟩ := hb2 e (by omega)
    rw [e1]
    exact gc_isTar e2 (br_f (by decide) k87)
  have k50 : o ≠ 10 → wX_fits_50 post (nI o) y (nI c) ln cm ce pl fl oc ec pc a1 a2 a3 a4 a5 a6 a7 a8 a9 a10 a11 a12 a13 a14 a15 a16 a17 := fun e10 => pk_lt o 2 (fun _ => k71 e10) (fun e2 => pk_lt 5 o (fun _ => k71 e10) (fun e5 => gc_isVar (hc1 e2 e5) (br_f (by decide) (k71 e10))))
  refine pk_eq o 10 (fun _ => H) (fun e10 => pk_eq o 7 (fun e7 => gc_isTar ha ⟨rfl, H⟩) (fun e7 => gc_isVar (ha7 e7 e10) (br_f (by decide) (pk_lt o 1 (fun _ => k50 e10) (fun e1 => pk_lt 5 o (fun _ => k50 e10) (fun e5 => ?_))))))
  obtain ⟨w1, w2⟩ := hb1 e1 e5
  rw [w1]
  rw [w1] at k50
  exact gc_isVar w2 (br_f (by decide) (k50 e10))
def gc_un (f : Nat → Nat) (k x : Nat) : Nat → Nat := fun j => if j = k then x else f j
theorem gc_un_s {f : Nat → Nat} {k x : Nat} : gc_un f k x k = x := if_pos rfl
theorem gc_un_n {f : Nat → Nat} {k j x : Nat} (h : j ≠ k) : gc_un f k x j = f j := if_neg h
theorem gc_emit {l : Nat} {O A B C : Nat → Nat} {V W : Nat → Int32} {o a b c : Nat} {y : Int32} (ho : o ≤ 10) (ha : a ≤ 31) (ha7 : o ≠ 7 → o ≠ 10 → a ≤ 7) (hb1 : 1 ≤ o → o ≤ 5 → y = nI b ∧ b ≤ 7) (hb2 : 8 ≤ o → o ≤ 9 → y = nI b ∧ b ≤ 31) (hc : c < 128) (hc1 : 2 ≤ o → o ≤ 5 → c ≤ 7) (hc9 : o = 9 → 1 ≤ c ∧ c ≤ 4) :
    ∃ (r : Int32) (l' : Nat) (O' A' B' C' : Nat → Nat) (V' : Nat → Int32), ∀ (u : St1), gc_ob l O A B C V W u → ∀ (post : Int32 → St1 → Prop), (∀ v, gc_ob l' O' A' B' C' V' W v → post r v) → wpX_emit post u (nI o) (nI a) y (nI c) := by
  by_cases hl : l < 32
  · refine ⟨nI (l + 1), l + 1, gc_un O l o, gc_un A l a, gc_un B l b, gc_un C l c, upd V l y, ?_⟩
    intro u hu post H
    obtain ⟨ln, cm, ce, pl, fl, oc, ec, pc, a1, a2, a3, a4, a5, a6, a7, a8, a9, a10, a11, a12, a13, a14, a15, a16, a17⟩ := u
    obtain ⟨e1, hs, e3, e5, _⟩ := hu
    subst e1 e3 e5
    refine pk_lt l 32 (fun _ => ?_) (fun z => absurd z (by omega))
    refine br_f (nI_pos (by omega)) (pk_lt 10 o (fun z => absurd z (by omega)) (fun _ => ?_))
    refine gc_fits ho ha ha7 hb1 hb2 hc hc1 hc9 (br_f (by decide) ⟨pk_in l 32 hl, nm_e ⟨pk_in l 32 hl, nm_e ⟨pk_in l 32 hl, nm_e ⟨pk_in l 32 hl, nm_e (nm_r (nI_1 l) ?_)⟩⟩⟩⟩)
    rw [gc_cl (by omega), gc_b8 o (by omega), gc_b8 a (by omega), gc_b8 c (by omega)]
    refine H _ ⟨rfl, ⟨by omega, ?_⟩, rfl, rfl, Or.inl rfl⟩
    intro i hi
    by_cases e : i = l
    · subst e
      rw [gc_un_s, gc_un_s, gc_un_s, gc_un_s, pk_us, pk_us, pk_us, pk_us]
      exact ⟨rfl, ho, fun _ => rfl, fun _ => ha, ha7, hb1, fun p q => ⟨rfl, hc1 p q⟩, hb2, fun p => ⟨rfl, (hc9 p).2⟩⟩
    · rw [gc_un_n e, gc_un_n e, gc_un_n e, gc_un_n e, pk_un e, pk_un e, pk_un e, pk_un e]
      exact hs.2 i (by omega)
  · refine ⟨-2, l, O, A, B, C, V, ?_⟩
    intro u hu post H
    obtain ⟨ln, cm, ce, pl, fl, oc, ec, pc, a1, a2, a3, a4, a5, a6, a7, a8, a9, a10, a11, a12, a13, a14, a15, a16, a17⟩ := u
    have hu' := hu
    obtain ⟨e1, hs, _⟩ := hu
    have := hs.1
    subst e1
    exact pk_lt l 32 (fun z => absurd z hl) (fun _ => H _ hu')
theorem gc_retract {l : Nat} {O A B C : Nat → Nat} {V W : Nat → Int32} :
    ∃ (r : Int32) (l' : Nat), ∀ (u : St1), gc_ob l O A B C V W u → ∀ (post : Int32 → St1 → Prop), (∀ v, gc_ob l' O A B C V W v → post r v) → wpX_retract post u := by
  by_cases hl : l = 0
  · refine ⟨-1, l, ?_⟩
    intro u hu post H
    obtain ⟨ln, cm, ce, pl, fl, oc, ec, pc, a1, a2, a3, a4, a5, a6, a7, a8, a9, a10, a11, a12, a13, a14, a15, a16, a17⟩ := u
    have hu' := hu
    obtain ⟨e1, hs, _⟩ := hu
    subst e1
    exact pk_eq l 0 (fun _ => H _ hu') (fun z => absurd hl z)
  · obtain ⟨m, rfl⟩ : ∃ m, l = m + 1 := ⟨l - 1, by omega⟩
    refine ⟨nI m, m, ?_⟩
    intro u hu post H
    obtain ⟨ln, cm, ce, pl, fl, oc, ec, pc, a1, a2, a3, a4, a5, a6, a7, a8, a9, a10, a11, a12, a13, a14, a15, a16, a17⟩ := u
    obtain ⟨e1, hs, e3, e5, _⟩ := hu
    have := hs.1
    subst e1
    refine pk_eq (m + 1) 0 (fun z => absurd z hl) (fun _ => nm_r (nI_pred m) (H _ ⟨rfl, ⟨by omega, fun i hi => hs.2 i (by omega)⟩, e3, e5, Or.inl rfl⟩))
end
section
/-! the law -/
theorem gc_cell {post : Int32 → Prop} {L : Nat} {xs : Nat → Int32} {u : St2} {k : Nat} (hL : L ≤ 260) (hk : k < 1000) (H : ∀ r, post r) : wpL_cell post L xs u (nI k) :=
  pk_le L k (fun _ => H 0) (fun z => ⟨pk_in k L z, H _⟩)
theorem gc_492 {post : Int32 → Prop} {L : Nat} {xs : Nat → Int32} {J : Int32 → Int32 → Int32 → Int32 → Int32 → Int32 → Int32 → Int32 → Int32 → (Nat → Int32) → (Nat → Int32) → (Nat → Int32) → (Nat → Int32) → (Nat → Int32) → (Nat → Int32) → (Nat → Int32) → (Nat → Int32) → (Nat → Int32) → (Nat → Int32) → (Nat → Int32) → (Nat → Int32) → (Nat → Int32) → (Nat → Int32) → (Nat → Int32) → (Nat → Int32) → (Nat → Int32) → Int32 → Int32 → Int32 → Int32 → Int32 → Int32 → Int32 → Int32 → (Nat → Int32) → (Nat → Int32) → (Nat → Int32) → (Nat → Int32) → (Nat → Int32) → (Nat → Int32) → (Nat → Int32) → (Nat → Int32) → (Nat → Int32) → (Nat → Int32) → (Nat → Int32) → (Nat → Int32) → (Nat → Int32) → (Nat → Int32) → (Nat → Int32) → (Nat → Int32) → (Nat → Int32) → Prop}
    {kc ks i : Nat} {xln xcm xce xpl xfl xoc xec xpc : Int32} {xa1 xa2 xa3 xa4 xa5 xa6 xa7 xa8 xa9 xa10 xa11 xa12 xa13 xa14 xa15 xa16 xa17 : Nat → Int32} {yln ycm yce ypl yfl yoc yec ypc : Int32} {ya1 ya2 ya3 ya4 ya5 ya6 ya7 ya8 ya9 ya10 ya11 ya12 ya13 ya14 ya15 ya16 ya17 : Nat → Int32} (H : J (nI (i + 4)) xln xcm xce xpl xfl xoc xec xpc xa1 xa2 xa3 xa4 xa5 xa6 xa7 xa8 xa9 xa10 xa11 xa12 xa13 xa14 xa15 xa16 xa17 yln ycm yce ypl yfl yoc yec ypc ya1 ya2 ya3 ya4 ya5 ya6 ya7 ya8 ya9 ya10 ya11 ya12 ya13 ya14 ya15 ya16 ya17) : wL_law_492 post L xs J (nI i) 1 kc ks xln xcm xce xpl xfl xoc xec xpc xa1 xa2 xa3 xa4 xa5 xa6 xa7 xa8 xa9 xa10 xa11 xa12 xa13 xa14 xa15 xa16 xa17 yln ycm yce ypl yfl yoc yec ypc ya1 ya2 ya3 ya4 ya5 ya6 ya7 ya8 ya9 ya10 ya11 ya12 ya13 ya14 ya15 ya16 ya17 :=
  br_f (by decide) (nm_r (nI_add i 4) H)
theorem gc_cut {L i : Nat} {P Q : Prop} (hL : L ≤ 260) (hi : i < 1000) (f : L < i + 4 → P) (g : i + 4 ≤ L → Q) : (Int32.ofNat L - 4 < nI i → P) ∧ (¬ Int32.ofNat L - 4 < nI i → Q) := by
  have e : (Int32.ofNat L - 4).toInt = (L : Int) - 4 := pk_sub_toInt (a := L) (b := 4) (by omega) (by omega)
  have e2 : (nI i).toInt = (i : Int) := nI_toInt (by omega)
  rw [Int32.lt_iff_toInt_lt, e, e2]
  exact ⟨fun z => f (by omega), fun z => g (by omega)⟩
def gc_two (W : Nat → Int32) (x y : St1) : Prop := ∃ (l : Nat) (O A B C : Nat → Nat) (V : Nat → Int32), gc_ob l O A B C V W x ∧ gc_ob l O A B C V W y
theorem gc_end {post : Int32 → Prop} {L : Nat} {xs : Nat → Int32} {kc ks n i : Nat} {W : Nat → Int32} {xln xcm xce xpl xfl xoc xec xpc : Int32} {xa1 xa2 xa3 xa4 xa5 xa6 xa7 xa8 xa9 xa10 xa11 xa12 xa13 xa14 xa15 xa16 xa17 : Nat → Int32} {yln ycm yce ypl yfl yoc yec ypc : Int32} {ya1 ya2 ya3 ya4 ya5 ya6 ya7 ya8 ya9 ya10 ya11 ya12 ya13 ya14 ya15 ya16 ya17 : Nat → Int32} (hL : L ≤ 260) (hi : i < 1000) (hLi : L < i + 4) (h : gc_two W (xln, xcm, xce, xpl, xfl, xoc, xec, xpc, xa1, xa2, xa3, xa4, xa5, xa6, xa7, xa8, xa9, xa10, xa11, xa12, xa13, xa14, xa15, xa16, xa17) (yln, ycm, yce, ypl, yfl, yoc, yec, ypc, ya1, ya2, ya3, ya4, ya5, ya6, ya7, ya8, ya9, ya10, ya11, ya12, ya13, ya14, ya15, ya16, ya17)) (H : post 1) :
    wL_law_56 post L xs kc ks (n + 1) (nI i) xln xcm xce xpl xfl xoc xec xpc xa1 xa2 xa3 xa4 xa5 xa6 xa7 xa8 xa9 xa10 xa11 xa12 xa13 xa14 xa15 xa16 xa17 yln ycm yce ypl yfl yoc yec ypc ya1 ya2 ya3 ya4 ya5 ya6 ya7 ya8 ya9 ya10 ya11 ya12 ya13 ya14 ya15 ya16 ya17 := by
  obtain ⟨l, O, A, B, C, V, hx, hy⟩ := h
  refine gc_cut hL hi (fun _ => ?_) (fun z => absurd z (by omega))
  refine gc_cell (k := 8) hL (by omega) (fun r => ?_)
  obtain ⟨j, hj, ej⟩ := pk_andE r (m := 127) 7 (by decide)
  refine nm_r ej ?_
  refine gc_more (g := 250) hx hy (by omega) (by omega) (by omega) ?_
  intro pln pcm pce ppl pfl poc pec ppc pa1 pa2 pa3 pa4 pa5 pa6 pa7 pa8 pa9 pa10 pa11 pa12 pa13 pa14 pa15 pa16 pa17 qln qcm qce qpl qfl qoc qec qpc qa1 qa2 qa3 qa4 qa5 qa6 qa7 qa8 qa9 qa10 qa11 qa12 qa13 qa14 qa15 qa16 qa17 hp hq
  refine br_f (by decide) ?_
  rw [nI_1]
  refine gc_more hp hq (by omega) (by omega) (by omega) ?_
  intro uln ucm uce upl ufl uoc uec upc ua1 ua2 ua3 ua4 ua5 ua6 ua7 ua8 ua9 ua10 ua11 ua12 ua13 ua14 ua15 ua16 ua17 vln vcm vce vpl vfl voc vec vpc va1 va2 va3 va4 va5 va6 va7 va8 va9 va10 va11 va12 va13 va14 va15 va16 va17 hu hv
  exact br_f (by decide) H
theorem gc_56 {post : Int32 → Prop} {L : Nat} {xs : Nat → Int32} {kc ks : Nat} {W : Nat → Int32} (hL : L ≤ 260) (H : post 1) :
    ∀ (d i : Nat) (xln xcm xce xpl xfl xoc xec xpc : Int32) (xa1 xa2 xa3 xa4 xa5 xa6 xa7 xa8 xa9 xa10 xa11 xa12 xa13 xa14 xa15 xa16 xa17 : Nat → Int32) (yln ycm yce ypl yfl yoc yec ypc : Int32) (ya1 ya2 ya3 ya4 ya5 ya6 ya7 ya8 ya9 ya10 ya11 ya12 ya13 ya14 ya15 ya16 ya17 : Nat → Int32), i < 600 → L < i + 4 + 4 * d → gc_two W (xln, xcm, xce, xpl, xfl, xoc, xec, xpc, xa1, xa2, xa3, xa4, xa5, xa6, xa7, xa8, xa9, xa10, xa11, xa12, xa13, xa14, xa15, xa16, xa17) (yln, ycm, yce, ypl, yfl, yoc, yec, ypc, ya1, ya2, ya3, ya4, ya5, ya6, ya7, ya8, ya9, ya10, ya11, ya12, ya13, ya14, ya15, ya16, ya17) → wL_law_56 post L xs kc ks (d + 1) (nI i) xln xcm xce xpl xfl xoc xec xpc xa1 xa2 xa3 xa4 xa5 xa6 xa7 xa8 xa9 xa10 xa11 xa12 xa13 xa14 xa15 xa16 xa17 yln ycm yce ypl yfl yoc yec ypc ya1 ya2 ya3 ya4 ya5 ya6 ya7 ya8 ya9 ya10 ya11 ya12 ya13 ya14 ya15 ya16 ya17 := by
  intro d
  induction d with
  | zero =>
    intro i xln xcm xce xpl xfl xoc xec xpc xa1 xa2 xa3 xa4 xa5 xa6 xa7 xa8 xa9 xa10 xa11 xa12 xa13 xa14 xa15 xa16 xa17 yln ycm yce ypl yfl yoc yec ypc ya1 ya2 ya3 ya4 ya5 ya6 ya7 ya8 ya9 ya10 ya11 ya12 ya13 ya14 ya15 ya16 ya17 hi hLi h
    exact gc_end hL (by omega) (by omega) h H
  | succ d ih =>
    intro i xln xcm xce xpl xfl xoc xec xpc xa1 xa2 xa3 xa4 xa5 xa6 xa7 xa8 xa9 xa10 xa11 xa12 xa13 xa14 xa15 xa16 xa17 yln ycm yce ypl yfl yoc yec ypc ya1 ya2 ya3 ya4 ya5 ya6 ya7 ya8 ya9 ya10 ya11 ya12 ya13 ya14 ya15 ya16 ya17 hi hLi h
    rcases Nat.lt_or_ge L (i + 4) with hc | hc
    · exact gc_end hL (by omega) hc h H
    obtain ⟨l, O, A, B, C, V, hx, hy⟩ := h
    have nxt : ∀ (pln pcm pce ppl pfl poc pec ppc : Int32) (pa1 pa2 pa3 pa4 pa5 pa6 pa7 pa8 pa9 pa10 pa11 pa12 pa13 pa14 pa15 pa16 pa17 : Nat → Int32) (qln qcm qce qpl qfl qoc qec qpc : Int32) (qa1 qa2 qa3 qa4 qa5 qa6 qa7 qa8 qa9 qa10 qa11 qa12 qa13 qa14 qa15 qa16 qa17 : Nat → Int32), gc_two W (pln, pcm, pce, ppl, pfl, poc, pec, ppc, pa1, pa2, pa3, pa4, pa5, pa6, pa7, pa8, pa9, pa10, pa11, pa12, pa13, pa14, pa15, pa16, pa17) (qln, qcm, qce, qpl, qfl, qoc, qec, qpc, qa1, qa2, qa3, qa4, qa5, qa6, qa7, qa8, qa9, qa10, qa11, qa12, qa13, qa14, qa15, qa16, qa17) → wL_law_492 post L xs (wL_law_56 post L xs kc ks (d + 1)) (nI i) 1 kc ks pln pcm pce ppl pfl poc pec ppc pa1 pa2 pa3 pa4 pa5 pa6 pa7 pa8 pa9 pa10 pa11 pa12 pa13 pa14 pa15 pa16 pa17 qln qcm qce qpl qfl qoc qec qpc qa1 qa2 qa3 qa4 qa5 qa6 qa7 qa8 qa9 qa10 qa11 qa12 qa13 qa14 qa15 qa16 qa17 := by
      intro pln pcm pce ppl pfl poc pec ppc pa1 pa2 pa3 pa4 pa5 pa6 pa7 pa8 pa9 pa10 pa11 pa12 pa13 pa14 pa15 pa16 pa17 qln qcm qce qpl qfl qoc qec qpc qa1 qa2 qa3 qa4 qa5 qa6 qa7 qa8 qa9 qa10 qa11 qa12 qa13 qa14 qa15 qa16 qa17 hpq
      exact gc_492 (ih (i + 4) pln pcm pce ppl pfl poc pec ppc pa1 pa2 pa3 pa4 pa5 pa6 pa7 pa8 pa9 pa10 pa11 pa12 pa13 pa14 pa15 pa16 pa17 qln qcm qce qpl qfl qoc qec qpc qa1 qa2 qa3 qa4 qa5 qa6 qa7 qa8 qa9 qa10 qa11 qa12 qa13 qa14 qa15 qa16 qa17 (by omega) (by omega) hpq)
    have i1 : nI i + 1 = nI (i + 1) := nI_1 i
    have i2 : nI i + 2 = nI (i + 2) := nI_add i 2
    have i3 : nI i + 3 = nI (i + 3) := nI_add i 3
    have v1 : vp_in (nI i + 1) L := pk_in (i + 1) L (by omega) i1
    have v2 : vp_in (nI i + 2) L := pk_in (i + 2) L (by omega) i2
    have v3 : vp_in (nI i + 3) L := pk_in (i + 3) L (by omega) i3
    refine gc_cut hL (by omega) (fun z => absurd z (by omega)) (fun _ => ⟨pk_in i L (by omega), by decide, ?_⟩)
    obtain ⟨m, hm, em⟩ := pk_andE (xs (nI i).toNatClampNeg) (m := 255) 8 (by decide)
    refine nm_r (e' := nI (m % 14)) (by rw [em]; exact pk_rem (a := m) (d := 14) (by omega) (by omega) (by omega)) ⟨v1, ?_⟩
    have ho : m % 14 < 14 := Nat.mod_lt _ (by omega)
    generalize m % 14 = o at ho
    obtain ⟨a, ha, ea⟩ := pk_andE (xs (nI i + 1).toNatClampNeg) (m := 7) 3 (by decide)
    refine nm_r ea ⟨v2, ?_⟩
    obtain ⟨b, hb, eb⟩ := pk_andE (xs (nI i + 2).toNatClampNeg) (m := 7) 3 (by decide)
    refine nm_r eb ⟨v3, ?_⟩
    obtain ⟨c, hc7, ec⟩ := pk_andE (xs (nI i + 3).toNatClampNeg) (m := 7) 3 (by decide)
    refine nm_r ec ?_
    have fin : ∀ (l : Nat) (O A B C : Nat → Nat) (V : Nat → Int32) (pln pcm pce ppl pfl poc pec ppc : Int32) (pa1 pa2 pa3 pa4 pa5 pa6 pa7 pa8 pa9 pa10 pa11 pa12 pa13 pa14 pa15 pa16 pa17 : Nat → Int32) (qln qcm qce qpl qfl qoc qec qpc : Int32) (qa1 qa2 qa3 qa4 qa5 qa6 qa7 qa8 qa9 qa10 qa11 qa12 qa13 qa14 qa15 qa16 qa17 : Nat → Int32), gc_ob l O A B C V W (pln, pcm, pce, ppl, pfl, poc, pec, ppc, pa1, pa2, pa3, pa4, pa5, pa6, pa7, pa8, pa9, pa10, pa11, pa12, pa13, pa14, pa15, pa16, pa17) → gc_ob l O A B C V W (qln, qcm, qce, qpl, qfl, qoc, qec, qpc, qa1, qa2, qa3, qa4, qa5, qa6, qa7, qa8, qa9, qa10, qa11, qa12, qa13, qa14, qa15, qa16, qa17) → wL_law_492 post L xs (wL_law_56 post L xs kc ks (d + 1)) (nI i) 1 kc ks pln pcm pce ppl pfl poc pec ppc pa1 pa2 pa3 pa4 pa5 pa6 pa7 pa8 pa9 pa10 pa11 pa12 pa13 pa14 pa15 pa16 pa17 qln qcm qce qpl qfl qoc qec qpc qa1 qa2 qa3 qa4 qa5 qa6 qa7 qa8 qa9 qa10 qa11 qa12 qa13 qa14 qa15 qa16 qa17 :=
      fun l O A B C V pln pcm pce ppl pfl poc pec ppc pa1 pa2 pa3 pa4 pa5 pa6 pa7 pa8 pa9 pa10 pa11 pa12 pa13 pa14 pa15 pa16 pa17 qln qcm qce qpl qfl qoc qec qpc qa1 qa2 qa3 qa4 qa5 qa6 qa7 qa8 qa9 qa10 qa11 qa12 qa13 qa14 qa15 qa16 qa17 hp hq => nxt pln pcm pce ppl pfl poc pec ppc pa1 pa2 pa3 pa4 pa5 pa6 pa7 pa8 pa9 pa10 pa11 pa12 pa13 pa14 pa15 pa16 pa17 qln qcm qce qpl qfl qoc qec qpc qa1 qa2 qa3 qa4 qa5 qa6 qa7 qa8 qa9 qa10 qa11 qa12 qa13 qa14 qa15 qa16 qa17 ⟨l, O, A, B, C, V, hp, hq⟩
    have k358 : (10 ≤ o) → wL_law_358 post L xs (wL_law_56 post L xs kc ks (d + 1)) (nI i) (nI o) (nI a) (nI c) 1 kc ks xln xcm xce xpl xfl xoc xec xpc xa1 xa2 xa3 xa4 xa5 xa6 xa7 xa8 xa9 xa10 xa11 xa12 xa13 xa14 xa15 xa16 xa17 yln ycm yce ypl yfl yoc yec ypc ya1 ya2 ya3 ya4 ya5 ya6 ya7 ya8 ya9 ya10 ya11 ya12 ya13 ya14 ya15 ya16 ya17 := by
      intro h10
      refine pk_eq o 11 (fun o11 => ?_) (fun o11 => pk_eq o 12 (fun o12 => ⟨v1, ?_⟩) (fun o12 => pk_eq o 13 (fun o13 => pk_eq c 0 (fun c0 => ?_) (fun c0 => ?_)) (fun o13 => ?_)))
      · obtain ⟨r, l', O', A', B', C', V', he⟩ := gc_emit (l := l) (O := O) (A := A) (B := B) (C := C) (V := V) (W := W) (o := 6) (a := a) (b := 0) (c := 0) (y := 0) (by omega) (by omega) (by omega) (by omega) (by omega) (by omega) (by omega) (by omega)
        refine he _ hx _ (fun u hu => ?_)
        obtain ⟨pln, pcm, pce, ppl, pfl, poc, pec, ppc, pa1, pa2, pa3, pa4, pa5, pa6, pa7, pa8, pa9, pa10, pa11, pa12, pa13, pa14, pa15, pa16, pa17⟩ := u
        refine he _ hy _ (fun u hv => ?_)
        obtain ⟨qln, qcm, qce, qpl, qfl, qoc, qec, qpc, qa1, qa2, qa3, qa4, qa5, qa6, qa7, qa8, qa9, qa10, qa11, qa12, qa13, qa14, qa15, qa16, qa17⟩ := u
        exact br_t rfl (fin _ _ _ _ _ _ pln pcm pce ppl pfl poc pec ppc pa1 pa2 pa3 pa4 pa5 pa6 pa7 pa8 pa9 pa10 pa11 pa12 pa13 pa14 pa15 pa16 pa17 qln qcm qce qpl qfl qoc qec qpc qa1 qa2 qa3 qa4 qa5 qa6 qa7 qa8 qa9 qa10 qa11 qa12 qa13 qa14 qa15 qa16 qa17 hu hv)
      · obtain ⟨f, hf, ef⟩ := pk_andE (xs (nI i + 1).toNatClampNeg) (m := 127) 7 (by decide)
        obtain ⟨g, hg, eg⟩ := pk_andE (xs (nI i + 2).toNatClampNeg) (m := 127) 7 (by decide)
        refine nm_r ef ⟨v2, nm_r (e' := nI (f + g)) (by rw [eg]; exact nI_add f g) ?_⟩
        refine gc_more hx hy (by omega) (by omega) (by omega) ?_
        intro pln pcm pce ppl pfl poc pec ppc pa1 pa2 pa3 pa4 pa5 pa6 pa7 pa8 pa9 pa10 pa11 pa12 pa13 pa14 pa15 pa16 pa17 qln qcm qce qpl qfl qoc qec qpc qa1 qa2 qa3 qa4 qa5 qa6 qa7 qa8 qa9 qa10 qa11 qa12 qa13 qa14 qa15 qa16 qa17 hp hq
        refine br_f (by decide) ?_
        refine gc_more hq hp (by omega) (by omega) (Nat.le_refl _) ?_
        intro uln ucm uce upl ufl uoc uec upc ua1 ua2 ua3 ua4 ua5 ua6 ua7 ua8 ua9 ua10 ua11 ua12 ua13 ua14 ua15 ua16 ua17 vln vcm vce vpl vfl voc vec vpc va1 va2 va3 va4 va5 va6 va7 va8 va9 va10 va11 va12 va13 va14 va15 va16 va17 hu hv
        exact br_f (by decide) (fin _ _ _ _ _ _ vln vcm vce vpl vfl voc vec vpc va1 va2 va3 va4 va5 va6 va7 va8 va9 va10 va11 va12 va13 va14 va15 va16 va17 uln ucm uce upl ufl uoc uec upc ua1 ua2 ua3 ua4 ua5 ua6 ua7 ua8 ua9 ua10 ua11 ua12 ua13 ua14 ua15 ua16 ua17 hv hu)
      · obtain ⟨r, l', he⟩ := gc_retract (l := l) (O := O) (A := A) (B := B) (C := C) (V := V) (W := W)
        refine he _ hx _ (fun u hu => ?_)
        obtain ⟨pln, pcm, pce, ppl, pfl, poc, pec, ppc, pa1, pa2, pa3, pa4, pa5, pa6, pa7, pa8, pa9, pa10, pa11, pa12, pa13, pa14, pa15, pa16, pa17⟩ := u
        refine he _ hy _ (fun u hv => ?_)
        obtain ⟨qln, qcm, qce, qpl, qfl, qoc, qec, qpc, qa1, qa2, qa3, qa4, qa5, qa6, qa7, qa8, qa9, qa10, qa11, qa12, qa13, qa14, qa15, qa16, qa17⟩ := u
        exact br_t rfl (fin _ _ _ _ _ _ pln pcm pce ppl pfl poc pec ppc pa1 pa2 pa3 pa4 pa5 pa6 pa7 pa8 pa9 pa10 pa11 pa12 pa13 pa14 pa15 pa16 pa17 qln qcm qce qpl qfl qoc qec qpc qa1 qa2 qa3 qa4 qa5 qa6 qa7 qa8 qa9 qa10 qa11 qa12 qa13 qa14 qa15 qa16 qa17 hu hv)
      · exact fin _ _ _ _ _ _ xln xcm xce xpl xfl xoc xec xpc xa1 xa2 xa3 xa4 xa5 xa6 xa7 xa8 xa9 xa10 xa11 xa12 xa13 xa14 xa15 xa16 xa17 yln ycm yce ypl yfl yoc yec ypc ya1 ya2 ya3 ya4 ya5 ya6 ya7 ya8 ya9 ya10 ya11 ya12 ya13 ya14 ya15 ya16 ya17 hx hy
      · exact fin _ _ _ _ _ _ xln xcm xce xpl xfl xoc xec xpc xa1 xa2 xa3 xa4 xa5 xa6 xa7 xa8 xa9 xa10 xa11 xa12 xa13 xa14 xa15 xa16 xa17 yln ycm yce ypl yfl yoc yec ypc ya1 ya2 ya3 ya4 ya5 ya6 ya7 ya8 ya9 ya10 ya11 ya12 ya13 ya14 ya15 ya16 ya17 hx hy
    refine pk_eq o 0 (fun o0 => ⟨v3, ?_⟩) (fun o0 => pk_lt 6 o (fun o6 => pk_eq o 7 (fun o7 => ⟨v1, ?_⟩) (fun o7 => pk_lt 9 o (fun o9 => pk_eq o 10 (fun o10 => pk_eq c 0 (fun c0 => ?_) (fun c0 => k358 (by omega))) (fun o10 => k358 (by omega))) (fun o9 => ⟨v2, ?_⟩))) (fun o6 => ?_))
    · obtain ⟨r, l', O', A', B', C', V', he⟩ := gc_emit (l := l) (O := O) (A := A) (B := B) (C := C) (V := V) (W := W) (o := o) (a := a) (b := 0) (c := 0) (y := xs (nI i + 3).toNatClampNeg) (by omega) (by omega) (by omega) (by omega) (by omega) (by omega) (by omega) (by omega)
      refine he _ hx _ (fun u hu => ?_)
      obtain ⟨pln, pcm, pce, ppl, pfl, poc, pec, ppc, pa1, pa2, pa3, pa4, pa5, pa6, pa7, pa8, pa9, pa10, pa11, pa12, pa13, pa14, pa15, pa16, pa17⟩ := u
      refine ⟨v3, he _ hy _ (fun u hv => ?_)⟩
      obtain ⟨qln, qcm, qce, qpl, qfl, qoc, qec, qpc, qa1, qa2, qa3, qa4, qa5, qa6, qa7, qa8, qa9, qa10, qa11, qa12, qa13, qa14, qa15, qa16, qa17⟩ := u
      exact br_t rfl (fin _ _ _ _ _ _ pln pcm pce ppl pfl poc pec ppc pa1 pa2 pa3 pa4 pa5 pa6 pa7 pa8 pa9 pa10 pa11 pa12 pa13 pa14 pa15 pa16 pa17 qln qcm qce qpl qfl qoc qec qpc qa1 qa2 qa3 qa4 qa5 qa6 qa7 qa8 qa9 qa10 qa11 qa12 qa13 qa14 qa15 qa16 qa17 hu hv)
    · obtain ⟨t, ht, et⟩ := pk_andE (xs (nI i + 1).toNatClampNeg) (m := 31) 5 (by decide)
      rw [et]
      obtain ⟨r, l', O', A', B', C', V', he⟩ := gc_emit (l := l) (O := O) (A := A) (B := B) (C := C) (V := V) (W := W) (o := o) (a := t) (b := 0) (c := 0) (y := 0) (by omega) (by omega) (by omega) (by omega) (by omega) (by omega) (by omega) (by omega)
      refine he _ hx _ (fun u hu => ?_)
      obtain ⟨pln, pcm, pce, ppl, pfl, poc, pec, ppc, pa1, pa2, pa3, pa4, pa5, pa6, pa7, pa8, pa9, pa10, pa11, pa12, pa13, pa14, pa15, pa16, pa17⟩ := u
      refine ⟨v1, he _ hy _ (fun u hv => ?_)⟩
      obtain ⟨qln, qcm, qce, qpl, qfl, qoc, qec, qpc, qa1, qa2, qa3, qa4, qa5, qa6, qa7, qa8, qa9, qa10, qa11, qa12, qa13, qa14, qa15, qa16, qa17⟩ := u
      exact br_t rfl (fin _ _ _ _ _ _ pln pcm pce ppl pfl poc pec ppc pa1 pa2 pa3 pa4 pa5 pa6 pa7 pa8 pa9 pa10 pa11 pa12 pa13 pa14 pa15 pa16 pa17 qln qcm qce qpl qfl qoc qec qpc qa1 qa2 qa3 qa4 qa5 qa6 qa7 qa8 qa9 qa10 qa11 qa12 qa13 qa14 qa15 qa16 qa17 hu hv)
    · obtain ⟨r, l', O', A', B', C', V', he⟩ := gc_emit (l := l) (O := O) (A := A) (B := B) (C := C) (V := V) (W := W) (o := o) (a := 0) (b := 0) (c := 0) (y := 0) (by omega) (by omega) (by omega) (by omega) (by omega) (by omega) (by omega) (by omega)
      refine he _ hx _ (fun u hu => ?_)
      obtain ⟨pln, pcm, pce, ppl, pfl, poc, pec, ppc, pa1, pa2, pa3, pa4, pa5, pa6, pa7, pa8, pa9, pa10, pa11, pa12, pa13, pa14, pa15, pa16, pa17⟩ := u
      refine he _ hy _ (fun u hv => ?_)
      obtain ⟨qln, qcm, qce, qpl, qfl, qoc, qec, qpc, qa1, qa2, qa3, qa4, qa5, qa6, qa7, qa8, qa9, qa10, qa11, qa12, qa13, qa14, qa15, qa16, qa17⟩ := u
      exact br_t rfl (fin _ _ _ _ _ _ pln pcm pce ppl pfl poc pec ppc pa1 pa2 pa3 pa4 pa5 pa6 pa7 pa8 pa9 pa10 pa11 pa12 pa13 pa14 pa15 pa16 pa17 qln qcm qce qpl qfl qoc qec qpc qa1 qa2 qa3 qa4 qa5 qa6 qa7 qa8 qa9 qa10 qa11 qa12 qa13 qa14 qa15 qa16 qa17 hu hv)
    · obtain ⟨t, ht, et⟩ := pk_andE (xs (nI i + 2).toNatClampNeg) (m := 31) 5 (by decide)
      obtain ⟨w, hw, ew⟩ := pk_andE (nI c) (m := 3) 2 (by decide)
      have e1w : (1 : Int32) + nI w = nI (1 + w) := nI_add 1 w
      rw [et, ew, e1w]
      obtain ⟨r, l', O', A', B', C', V', he⟩ := gc_emit (l := l) (O := O) (A := A) (B := B) (C := C) (V := V) (W := W) (o := o) (a := a) (b := t) (c := 1 + w) (y := nI t) (by omega) (by omega) (by omega) (by omega) (fun _ _ => ⟨rfl, by omega⟩) (by omega) (by omega) (by omega)
      refine he _ hx _ (fun u hu => ?_)
      obtain ⟨pln, pcm, pce, ppl, pfl, poc, pec, ppc, pa1, pa2, pa3, pa4, pa5, pa6, pa7, pa8, pa9, pa10, pa11, pa12, pa13, pa14, pa15, pa16, pa17⟩ := u
      refine ⟨v2, he _ hy _ (fun u hv => ?_)⟩
      obtain ⟨qln, qcm, qce, qpl, qfl, qoc, qec, qpc, qa1, qa2, qa3, qa4, qa5, qa6, qa7, qa8, qa9, qa10, qa11, qa12, qa13, qa14, qa15, qa16, qa17⟩ := u
      exact br_t rfl (fin _ _ _ _ _ _ pln pcm pce ppl pfl poc pec ppc pa1 pa2 pa3 pa4 pa5 pa6 pa7 pa8 pa9 pa10 pa11 pa12 pa13 pa14 pa15 pa16 pa17 qln qcm qce qpl qfl qoc qec qpc qa1 qa2 qa3 qa4 qa5 qa6 qa7 qa8 qa9 qa10 qa11 qa12 qa13 qa14 qa15 qa16 qa17 hu hv)
    · obtain ⟨r, l', O', A', B', C', V', he⟩ := gc_emit (l := l) (O := O) (A := A) (B := B) (C := C) (V := V) (W := W) (o := o) (a := a) (b := b) (c := c) (y := nI b) (by omega) (by omega) (by omega) (fun _ _ => ⟨rfl, by omega⟩) (fun _ _ => ⟨rfl, by omega⟩) (by omega) (by omega) (by omega)
      refine he _ hx _ (fun u hu => ?_)
      obtain ⟨pln, pcm, pce, ppl, pfl, poc, pec, ppc, pa1, pa2, pa3, pa4, pa5, pa6, pa7, pa8, pa9, pa10, pa11, pa12, pa13, pa14, pa15, pa16, pa17⟩ := u
      refine he _ hy _ (fun u hv => ?_)
      obtain ⟨qln, qcm, qce, qpl, qfl, qoc, qec, qpc, qa1, qa2, qa3, qa4, qa5, qa6, qa7, qa8, qa9, qa10, qa11, qa12, qa13, qa14, qa15, qa16, qa17⟩ := u
      exact br_t rfl (fin _ _ _ _ _ _ pln pcm pce ppl pfl poc pec ppc pa1 pa2 pa3 pa4 pa5 pa6 pa7 pa8 pa9 pa10 pa11 pa12 pa13 pa14 pa15 pa16 pa17 qln qcm qce qpl qfl qoc qec qpc qa1 qa2 qa3 qa4 qa5 qa6 qa7 qa8 qa9 qa10 qa11 qa12 qa13 qa14 qa15 qa16 qa17 hu hv)
theorem gc_18 {post : Int32 → Prop} {L : Nat} {xs : Nat → Int32} {kc ks : Nat} (hL : L ≤ 260) (H : post 1) :
    ∀ (d k : Nat) (W : Nat → Int32) (xln xcm xce xpl xfl xoc xec xpc : Int32) (xa1 xa2 xa3 xa4 xa5 xa6 xa7 xa8 xa9 xa10 xa11 xa12 xa13 xa14 xa15 xa16 xa17 : Nat → Int32) (yln ycm yce ypl yfl yoc yec ypc : Int32) (ya1 ya2 ya3 ya4 ya5 ya6 ya7 ya8 ya9 ya10 ya11 ya12 ya13 ya14 ya15 ya16 ya17 : Nat → Int32), k + d = 8 → gc_two W (xln, xcm, xce, xpl, xfl, xoc, xec, xpc, xa1, xa2, xa3, xa4, xa5, xa6, xa7, xa8, xa9, xa10, xa11, xa12, xa13, xa14, xa15, xa16, xa17) (yln, ycm, yce, ypl, yfl, yoc, yec, ypc, ya1, ya2, ya3, ya4, ya5, ya6, ya7, ya8, ya9, ya10, ya11, ya12, ya13, ya14, ya15, ya16, ya17) → wL_law_18 post L xs kc ks (d + 1) (nI k) xln xcm xce xpl xfl xoc xec xpc xa1 xa2 xa3 xa4 xa5 xa6 xa7 xa8 xa9 xa10 xa11 xa12 xa13 xa14 xa15 xa16 xa17 yln ycm yce ypl yfl yoc yec ypc ya1 ya2 ya3 ya4 ya5 ya6 ya7 ya8 ya9 ya10 ya11 ya12 ya13 ya14 ya15 ya16 ya17 := by
  intro d
  induction d with
  | zero =>
    intro k W xln xcm xce xpl xfl xoc xec xpc xa1 xa2 xa3 xa4 xa5 xa6 xa7 xa8 xa9 xa10 xa11 xa12 xa13 xa14 xa15 xa16 xa17 yln ycm yce ypl yfl yoc yec ypc ya1 ya2 ya3 ya4 ya5 ya6 ya7 ya8 ya9 ya10 ya11 ya12 ya13 ya14 ya15 ya16 ya17 hk h
    exact pk_le 8 k (fun _ => ⟨71, gc_56 hL H 70 8 xln xcm xce xpl xfl xoc xec xpc xa1 xa2 xa3 xa4 xa5 xa6 xa7 xa8 xa9 xa10 xa11 xa12 xa13 xa14 xa15 xa16 xa17 yln ycm yce ypl yfl yoc yec ypc ya1 ya2 ya3 ya4 ya5 ya6 ya7 ya8 ya9 ya10 ya11 ya12 ya13 ya14 ya15 ya16 ya17 (by omega) (by omega) h⟩) (fun z => absurd z (by omega))
  | succ d ih =>
    intro k W xln xcm xce xpl xfl xoc xec xpc xa1 xa2 xa3 xa4 xa5 xa6 xa7 xa8 xa9 xa10 xa11 xa12 xa13 xa14 xa15 xa16 xa17 yln ycm yce ypl yfl yoc yec ypc ya1 ya2 ya3 ya4 ya5 ya6 ya7 ya8 ya9 ya10 ya11 ya12 ya13 ya14 ya15 ya16 ya17 hk h
    obtain ⟨l, O, A, B, C, V, hx, hy⟩ := h
    refine pk_le 8 k (fun z => absurd z (by omega)) (fun _ => gc_cell hL (by omega) (fun r => ?_))
    refine gc_start hx (by omega) (fun u hu => ?_)
    obtain ⟨pln, pcm, pce, ppl, pfl, poc, pec, ppc, pa1, pa2, pa3, pa4, pa5, pa6, pa7, pa8, pa9, pa10, pa11, pa12, pa13, pa14, pa15, pa16, pa17⟩ := u
    refine gc_start hy (by omega) (fun u hv => ?_)
    obtain ⟨qln, qcm, qce, qpl, qfl, qoc, qec, qpc, qa1, qa2, qa3, qa4, qa5, qa6, qa7, qa8, qa9, qa10, qa11, qa12, qa13, qa14, qa15, qa16, qa17⟩ := u
    exact nm_r (nI_1 k) (ih (k + 1) _ pln pcm pce ppl pfl poc pec ppc pa1 pa2 pa3 pa4 pa5 pa6 pa7 pa8 pa9 pa10 pa11 pa12 pa13 pa14 pa15 pa16 pa17 qln qcm qce qpl qfl qoc qec qpc qa1 qa2 qa3 qa4 qa5 qa6 qa7 qa8 qa9 qa10 qa11 qa12 qa13 qa14 qa15 qa16 qa17 (by omega) ⟨l, O, A, B, C, V, hu, hv⟩)
theorem gc_init {post : St1 → Prop} (H : post (0, 0, 0, 0, 0, 0, 0, 0, (fun _ => 0), (fun _ => 0), (fun _ => 0), (fun _ => 0), (fun _ => 0), (fun _ => 0), (fun _ => 0), (fun _ => 0), (fun _ => 0), (fun _ => 0), (fun _ => 0), (fun _ => 0), (fun _ => 0), (fun _ => 0), (fun _ => 0), (fun _ => 0), (fun _ => 0))) : wpX_init post 17 1170 (0, 0, 0, 0, 0, 0, 0, 0) := by
  unfold wpX_init
  dsimp only
  repeat (refine ⟨by decide, ?_⟩)
  exact H
theorem gc_ob0 : gc_ob 0 (fun _ => 0) (fun _ => 0) (fun _ => 0) (fun _ => 0) (fun _ => 0) (fun _ => 0) (0, 0, 0, 0, 0, 0, 0, 0, (fun _ => 0), (fun _ => 0), (fun _ => 0), (fun _ => 0), (fun _ => 0), (fun _ => 0), (fun _ => 0), (fun _ => 0), (fun _ => 0), (fun _ => 0), (fun _ => 0), (fun _ => 0), (fun _ => 0), (fun _ => 0), (fun _ => 0), (fun _ => 0), (fun _ => 0)) :=
  ⟨rfl, ⟨by omega, fun i hi => absurd hi (by omega)⟩, rfl, rfl, Or.inl rfl⟩
/-! ===== what is owed ===== -/
theorem i_vc (xs : Nat → Int32) (L : Nat) (hL : L ≤ 260) : wpL_law (fun r => r = 1) L xs := by
  refine ⟨17, 1170, by omega, by omega, gc_init ⟨by omega, by omega, 17, 1170, by omega, by omega, gc_init ⟨9, ?_⟩⟩⟩
  exact gc_18 (post := fun r => r = 1) hL rfl 8 0 _ _ _ _ _ _ _ _ _ _ _ _ _ _ _ _ _ _ _ _ _ _ _ _ _ _ _ _ _ _ _ _ _ _ _ _ _ _ _ _ _ _ _ _ _ _ _ _ _ _ _ rfl ⟨0, _, _, _, _, _, gc_ob0, gc_ob0⟩
end
