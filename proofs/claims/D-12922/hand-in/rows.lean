section
/-! bits of an Int32 (turned from kit/laws/BITS.to-paste), small sets, places -/
def tp_bt (x : Int32) (i : Nat) : Bool := x.toBitVec.getLsbD i
theorem tp_bext {x y : Int32} (h : ∀ i, i < 32 → tp_bt x i = tp_bt y i) : x = y := Int32.toBitVec_inj.mp (BitVec.eq_of_getLsbD_eq (fun i hi => h i hi))
theorem tp_bor (x y : Int32) (i : Nat) : tp_bt (x ||| y) i = (tp_bt x i || tp_bt y i) := by unfold tp_bt; rw [Int32.toBitVec_or, BitVec.getLsbD_or]
theorem tp_band (x y : Int32) (i : Nat) : tp_bt (x &&& y) i = (tp_bt x i && tp_bt y i) := by unfold tp_bt; rw [Int32.toBitVec_and, BitVec.getLsbD_and]
theorem tp_bxor (x y : Int32) (i : Nat) : tp_bt (x ^^^ y) i = (tp_bt x i ^^ tp_bt y i) := by unfold tp_bt; rw [Int32.toBitVec_xor, BitVec.getLsbD_xor]
theorem tp_bbig {x : Int32} {i : Nat} (h : 32 ≤ i) : tp_bt x i = false := BitVec.getLsbD_of_ge _ _ h
theorem tp_bm1 : ∀ i, i < 32 → tp_bt (-1) i = true := by decide +kernel
theorem tp_b0 (i : Nat) : tp_bt 0 i = false := BitVec.getLsbD_zero
theorem tp_sl : ∀ n, n < 32 → ((nI n &&& 31).toBitVec.smod 32).toNat = n := by decide +kernel
theorem tp_tw : ∀ l, l < 32 → ((1 : Int32) <<< (nI l &&& 31)).toBitVec = BitVec.twoPow 32 l := by decide +kernel
theorem tp_one {n i : Nat} (hn : n < 32) (hi : i < 32) : tp_bt ((1 : Int32) <<< (nI n &&& 31)) i = decide (i = n) := by
  unfold tp_bt
  rw [tp_tw n hn, BitVec.getLsbD_twoPow]
  by_cases h : i = n
  · subst h; simp [hi]
  · have h2 : ¬ n = i := fun z => h z.symm
    simp [h, h2]
theorem tp_tst {x : Int32} {n : Nat} (hn : n < 32) : ((x >>> (nI n &&& 31)) &&& 1) = 0 ↔ tp_bt x n = false := by
  have e : (x >>> (nI n &&& 31)).toBitVec = x.toBitVec.sshiftRight n := by
    rw [Int32.toBitVec_shiftRight]
    show x.toBitVec.sshiftRight ((nI n &&& 31).toBitVec.smod 32).toNat = _
    rw [tp_sl n hn]
  rw [← Int32.toBitVec_inj, Int32.toBitVec_and, e]
  show (x.toBitVec.sshiftRight n &&& 1#32) = 0#32 ↔ _
  rw [BitVec.and_one_eq_setWidth_ofBool_getLsbD, BitVec.getLsbD_sshiftRight]
  unfold tp_bt
  have e2 : (n + 0 < 32) := by omega
  simp only [Nat.add_zero] at e2 ⊢
  simp only [e2, if_true]
  cases hb : x.toBitVec.getLsbD n
  · exact ⟨fun _ => rfl, fun _ => by decide⟩
  · exact ⟨fun z => absurd z (by decide), fun z => absurd z (by decide)⟩
theorem tp_s16 (x : Int32) {i : Nat} (hi : i < 32) : tp_bt (x.toInt16.toInt32) i = tp_bt x (if i < 16 then i else 15) := by
  unfold tp_bt
  rw [Int16.toBitVec_toInt32, Int32.toBitVec_toInt16, BitVec.getLsbD_signExtend]
  by_cases h : i < 16
  · simp only [h, hi, decide_true, Bool.true_and, if_true]
    rw [BitVec.getLsbD_signExtend]
    simp [h, hi]
  · simp only [h, hi, decide_true, Bool.true_and, if_false]
    rw [BitVec.msb_eq_getLsbD_last, BitVec.getLsbD_signExtend]
    simp
/-- only bits 0 .. 11 -/
def tp_W12 (w : Int32) : Prop := ∀ i, 12 ≤ i → tp_bt w i = false
theorem tp_W12_0 : tp_W12 0 := fun i _ => tp_b0 i
/-- a key set, a key cleared, in a short -/
def tp_se (w : Int32) (k : Nat) : Int32 := (w ||| ((1 : Int32) <<< (nI k &&& 31))).toInt16.toInt32
def tp_cl (w : Int32) (k : Nat) : Int32 := (w &&& (((1 : Int32) <<< (nI k &&& 31)) ^^^ (-1))).toInt16.toInt32
def tp_c4 (w : Int32) (m : Nat) : Int32 := tp_cl (tp_cl (tp_cl (tp_cl w m) (m + 3)) (m + 6)) (m + 9)
theorem tp_se_bt {w : Int32} {k : Nat} (hw : tp_W12 w) (hk : k < 12) (i : Nat) : tp_bt (tp_se w k) i = (tp_bt w i || decide (i = k)) := by
  rcases Nat.lt_or_ge i 32 with hi | hi
  · unfold tp_se
    rw [tp_s16 _ hi, tp_bor, tp_one (by omega) (by split <;> omega)]
    by_cases h : i < 16
    · simp [h]
    · have h1 : tp_bt w 15 = false := hw 15 (by omega)
      have h2 : tp_bt w i = false := hw i (by omega)
      have h3 : ¬ i = k := by omega
      have h4 : ¬ 15 = k := by omega
      simp [h, h1, h2, h3, h4]
  · rw [tp_bbig hi, tp_bbig hi]
    have : ¬ i = k := by omega
    simp [this]
theorem tp_cl_bt {w : Int32} {k : Nat} (hw : tp_W12 w) (hk : k < 12) (i : Nat) : tp_bt (tp_cl w k) i = (tp_bt w i && !decide (i = k)) := by
  rcases Nat.lt_or_ge i 32 with hi | hi
  · unfold tp_cl
    have hj : (if i < 16 then i else 15) < 32 := by split <;> omega
    rw [tp_s16 _ hi, tp_band, tp_bxor, tp_one (by omega) hj, tp_bm1 _ hj]
    by_cases h : i < 16
    · simp [h]
    · have h1 : tp_bt w 15 = false := hw 15 (by omega)
      have h2 : tp_bt w i = false := hw i (by omega)
      simp [h, h1, h2]
  · rw [tp_bbig hi, tp_bbig hi, Bool.false_and]
theorem tp_se_W {w : Int32} {k : Nat} (hw : tp_W12 w) (hk : k < 12) : tp_W12 (tp_se w k) := by
  intro i hi
  have : ¬ i = k := by omega
  rw [tp_se_bt hw hk, hw i hi]
  simp [this]
theorem tp_cl_W {w : Int32} {k : Nat} (hw : tp_W12 w) (hk : k < 12) : tp_W12 (tp_cl w k) := by
  intro i hi
  rw [tp_cl_bt hw hk, hw i hi, Bool.false_and]
theorem tp_c4_W {w : Int32} {m : Nat} (hw : tp_W12 w) (hm : m < 3) : tp_W12 (tp_c4 w m) :=
  tp_cl_W (tp_cl_W (tp_cl_W (tp_cl_W hw (by omega)) (by omega)) (by omega)) (by omega)
theorem tp_c4_bt {w : Int32} {m : Nat} (hw : tp_W12 w) (hm : m < 3) (i : Nat) : tp_bt (tp_c4 w m) i = (tp_bt w i && !decide (i % 3 = m)) := by
  unfold tp_c4
  have h1 := tp_cl_W hw (show m < 12 by omega)
  have h2 := tp_cl_W h1 (show m + 3 < 12 by omega)
  have h3 := tp_cl_W h2 (show m + 6 < 12 by omega)
  rw [tp_cl_bt h3 (by omega), tp_cl_bt h2 (by omega), tp_cl_bt h1 (by omega), tp_cl_bt hw (by omega)]
  rcases Nat.lt_or_ge i 12 with hi | hi
  · by_cases e : i % 3 = m
    · have : i = m ∨ i = m + 3 ∨ i = m + 6 ∨ i = m + 9 := by omega
      rcases this with h | h | h | h <;> simp [h] <;> omega
    · have a1 : ¬ i = m := by omega
      have a2 : ¬ i = m + 3 := by omega
      have a3 : ¬ i = m + 6 := by omega
      have a4 : ¬ i = m + 9 := by omega
      simp [e, a1, a2, a3, a4]
  · rw [hw i hi]
    simp
theorem tp_c4_all {w : Int32} (hw : tp_W12 w) : tp_c4 (tp_c4 (tp_c4 w 0) 1) 2 = 0 := by
  apply tp_bext
  intro i hi
  have h0 := tp_c4_W hw (show 0 < 3 by omega)
  have h1 := tp_c4_W h0 (show 1 < 3 by omega)
  rw [tp_c4_bt h1 (by omega), tp_c4_bt h0 (by omega), tp_c4_bt hw (by omega), tp_b0]
  have : i % 3 = 0 ∨ i % 3 = 1 ∨ i % 3 = 2 := by omega
  rcases this with h | h | h <;> simp [h]
/-- a set of four as a number -/
def tp_of (f : Nat → Bool) : Nat := (if f 0 then 1 else 0) + (if f 1 then 2 else 0) + (if f 2 then 4 else 0) + (if f 3 then 8 else 0)
def tp_ub (f : Nat → Bool) (t : Nat) (b : Bool) : Nat → Bool := fun j => if j = t then b else f j
theorem tp_lt4 {P : Nat → Prop} (h0 : P 0) (h1 : P 1) (h2 : P 2) (h3 : P 3) : ∀ t, t < 4 → P t := by
  intro t ht
  have : t = 0 ∨ t = 1 ∨ t = 2 ∨ t = 3 := by omega
  rcases this with h | h | h | h <;> subst h <;> assumption
theorem tp_lt3 {P : Nat → Prop} (h0 : P 0) (h1 : P 1) (h2 : P 2) : ∀ t, t < 3 → P t := by
  intro t ht
  have : t = 0 ∨ t = 1 ∨ t = 2 := by omega
  rcases this with h | h | h <;> subst h <;> assumption
theorem tp_of_lt (f : Nat → Bool) : tp_of f < 16 := by
  unfold tp_of
  split <;> split <;> split <;> split <;> omega
theorem tp_of_cg {f g : Nat → Bool} (h : ∀ t, t < 4 → f t = g t) : tp_of f = tp_of g := by
  unfold tp_of
  rw [h 0 (by omega), h 1 (by omega), h 2 (by omega), h 3 (by omega)]
theorem tp_of_tst (f : Nat → Bool) : ∀ t, t < 4 → (((nI (tp_of f) >>> (nI t &&& 31)) &&& 1) = 0 ↔ f t = false) := by
  have key : ∀ b0 b1 b2 b3 : Bool, let n := (if b0 then 1 else 0) + (if b1 then 2 else 0) + (if b2 then 4 else 0) + (if b3 then 8 else 0)
      ((((nI n >>> (nI 0 &&& 31)) &&& 1) = 0 ↔ b0 = false) ∧ (((nI n >>> (nI 1 &&& 31)) &&& 1) = 0 ↔ b1 = false) ∧ (((nI n >>> (nI 2 &&& 31)) &&& 1) = 0 ↔ b2 = false) ∧ (((nI n >>> (nI 3 &&& 31)) &&& 1) = 0 ↔ b3 = false)) := by decide +kernel
  have k := key (f 0) (f 1) (f 2) (f 3)
  exact tp_lt4 k.1 k.2.1 k.2.2.1 k.2.2.2
theorem tp_of_set (f : Nat → Bool) : ∀ t, t < 4 → nI (tp_of f) ||| ((1 : Int32) <<< (nI t &&& 31)) = nI (tp_of (tp_ub f t true)) := by
  have key : ∀ b0 b1 b2 b3 : Bool, let n := (if b0 then 1 else 0) + (if b1 then 2 else 0) + (if b2 then 4 else 0) + (if b3 then 8 else 0)
      (nI n ||| ((1 : Int32) <<< (nI 0 &&& 31)) = nI (1 + (if b1 then 2 else 0) + (if b2 then 4 else 0) + (if b3 then 8 else 0))) ∧
      (nI n ||| ((1 : Int32) <<< (nI 1 &&& 31)) = nI ((if b0 then 1 else 0) + 2 + (if b2 then 4 else 0) + (if b3 then 8 else 0))) ∧
      (nI n ||| ((1 : Int32) <<< (nI 2 &&& 31)) = nI ((if b0 then 1 else 0) + (if b1 then 2 else 0) + 4 + (if b3 then 8 else 0))) ∧
      (nI n ||| ((1 : Int32) <<< (nI 3 &&& 31)) = nI ((if b0 then 1 else 0) + (if b1 then 2 else 0) + (if b2 then 4 else 0) + 8)) := by decide +kernel
  have k := key (f 0) (f 1) (f 2) (f 3)
  exact tp_lt4 k.1 k.2.1 k.2.2.1 k.2.2.2
theorem tp_of_clr (f : Nat → Bool) : ∀ t, t < 4 → nI (tp_of f) &&& (((1 : Int32) <<< (nI t &&& 31)) ^^^ (-1)) = nI (tp_of (tp_ub f t false)) := by
  have key : ∀ b0 b1 b2 b3 : Bool, let n := (if b0 then 1 else 0) + (if b1 then 2 else 0) + (if b2 then 4 else 0) + (if b3 then 8 else 0)
      (nI n &&& (((1 : Int32) <<< (nI 0 &&& 31)) ^^^ (-1)) = nI (0 + (if b1 then 2 else 0) + (if b2 then 4 else 0) + (if b3 then 8 else 0))) ∧
      (nI n &&& (((1 : Int32) <<< (nI 1 &&& 31)) ^^^ (-1)) = nI ((if b0 then 1 else 0) + 0 + (if b2 then 4 else 0) + (if b3 then 8 else 0))) ∧
      (nI n &&& (((1 : Int32) <<< (nI 2 &&& 31)) ^^^ (-1)) = nI ((if b0 then 1 else 0) + (if b1 then 2 else 0) + 0 + (if b3 then 8 else 0))) ∧
      (nI n &&& (((1 : Int32) <<< (nI 3 &&& 31)) ^^^ (-1)) = nI ((if b0 then 1 else 0) + (if b1 then 2 else 0) + (if b2 then 4 else 0) + 0)) := by decide +kernel
  have k := key (f 0) (f 1) (f 2) (f 3)
  exact tp_lt4 k.1 k.2.1 k.2.2.1 k.2.2.2
theorem tp_uu (f : Nat → Int32) (k : Nat) (x y : Int32) : upd (upd f k x) k y = upd f k y := by
  funext j
  unfold upd
  by_cases h : j = k <;> simp [h]
theorem tp_ui (f : Nat → Int32) (k : Nat) : upd f k (f k) = f := by
  funext j
  unfold upd
  by_cases h : j = k <;> simp [h]
/-- holders: nobody or one of four -/
def tp_V8 (a : Nat → Int32) : Prop := ∀ k, k < 12 → a k = -1 ∨ ∃ t, t < 4 ∧ a k = nI t
theorem tp_nar4 : ∀ t, t < 4 → vp_nar .byte (nI t) = nI t := by
  intro t ht
  rw [vp_nar_byte]
  exact (by decide +kernel : ∀ t, t < 4 → (nI t).toInt8.toInt32 = nI t) t ht
theorem tp_narm : vp_nar .byte (-1) = -1 := by
  rw [vp_nar_byte]
  decide
theorem tp_nar8 {a : Nat → Int32} (h : tp_V8 a) {k : Nat} (hk : k < 12) : vp_nar .byte (a k) = a k := by
  rcases h k hk with e | ⟨t, ht, e⟩
  · rw [e]; exact tp_narm
  · rw [e]; exact tp_nar4 t ht
theorem tp_by : ∀ t, t < 16 → (nI t).toInt8.toInt32 = nI t := by decide +kernel
theorem tp_m1 {t : Nat} (h : t < 16) : ¬ nI t = -1 := (by decide +kernel : ∀ t, t < 16 → ¬ nI t = -1) t h
theorem tp_ni {a b : Nat} (ha : a < 2 ^ 31) (hb : b < 2 ^ 31) (h : nI a = nI b) : a = b := (nI_eq ha hb).mp h
theorem tp_ix3 {t m : Nat} : nI t * 3 + nI m = nI (t * 3 + m) := by
  show nI t * nI 3 + nI m = _
  rw [pk_mul, nI_add]
theorem tp_ix12 {t m : Nat} : nI t * 12 + nI m = nI (t * 12 + m) := by
  show nI t * nI 12 + nI m = _
  rw [pk_mul, nI_add]
theorem tp_ix64 {t m : Nat} : nI t * 64 + nI m = nI (t * 64 + m) := by
  show nI t * nI 64 + nI m = _
  rw [pk_mul, nI_add]
end
section
/-! holdersOn, releaseOn, rollBack, isOpen, isPart: exact -/
def tp_hit (a : Nat → Int32) (m t : Nat) : Bool := decide (a m = nI t) || decide (a (m + 3) = nI t) || decide (a (m + 6) = nI t) || decide (a (m + 9) = nI t)
theorem tp_hit_iff {a : Nat → Int32} {m t : Nat} (hm : m < 3) : tp_hit a m t = true ↔ ∃ k, k < 12 ∧ k % 3 = m ∧ a k = nI t := by
  unfold tp_hit
  simp only [Bool.or_eq_true, decide_eq_true_eq]
  constructor
  · intro h
    rcases h with ((h | h) | h) | h
    · exact ⟨m, by omega, by omega, h⟩
    · exact ⟨m + 3, by omega, by omega, h⟩
    · exact ⟨m + 6, by omega, by omega, h⟩
    · exact ⟨m + 9, by omega, by omega, h⟩
  · rintro ⟨k, hk, hkm, e⟩
    have : k = m ∨ k = m + 3 ∨ k = m + 6 ∨ k = m + 9 := by omega
    rcases this with h | h | h | h <;> subst h
    · exact Or.inl (Or.inl (Or.inl e))
    · exact Or.inl (Or.inl (Or.inr e))
    · exact Or.inl (Or.inr e)
    · exact Or.inr e
theorem tp_ho_step {post : Int32 → Prop} {xop xst xvo xhe xns xnm xsl xpa xtr xtd xhp xcc xfi xwa xse xlo : Int32} {a1 a2 a3 a4 a5 a6 a7 a8 a9 a10 a11 a12 a13 a14 a15 a16 : Nat → Int32} {n k : Nat} {f : Nat → Bool} (hv : tp_V8 a8) (hk : k < 12)
    (H : wX_holdersOn_4 post xop xst xvo xhe xns xnm xsl xpa xtr xtd xhp xcc xfi xwa xse xlo a1 a2 a3 a4 a5 a6 a7 a8 a9 a10 a11 a12 a13 a14 a15 a16 n (nI (tp_of (fun t => f t || decide (a8 k = nI t)))) (nI (k + 3))) :
    wX_holdersOn_4 post xop xst xvo xhe xns xnm xsl xpa xtr xtd xhp xcc xfi xwa xse xlo a1 a2 a3 a4 a5 a6 a7 a8 a9 a10 a11 a12 a13 a14 a15 a16 (n + 1) (nI (tp_of f)) (nI k) := by
  refine pk_le 12 k (fun z => absurd z (by omega)) (fun _ => ⟨pk_in k 12 hk, ?_⟩)
  rw [nI_clamp (show k < 2 ^ 31 by omega)]
  rcases hv k hk with e | ⟨s, hs, e⟩
  · refine br_t e (nm_r ?_ (nm_r (nI_add k 3) H))
    rw [show nI (tp_of f) ||| 0 = nI (tp_of f) from tp_bext (fun i hi => by rw [tp_bor, tp_b0, Bool.or_false])]
    rw [tp_of_cg (fun t ht => ?_)]
    have h2 : ¬ a8 k = nI t := fun z => tp_m1 (show t < 16 by omega) (by rw [← z, e])
    simp [h2]
  · refine br_f (by rw [e]; exact tp_m1 (by omega)) ⟨pk_in k 12 hk, nm_r ?_ (nm_r (nI_add k 3) H)⟩
    rw [e, tp_of_set f s hs]
    rw [tp_of_cg (fun t ht => ?_)]
    unfold tp_ub
    by_cases h : t = s
    · simp [h]
    · have h2 : ¬ nI s = nI t := fun z => h (tp_ni (by omega) (by omega) z).symm
      simp [h, h2]
theorem tp_holdersOn {post : Int32 → Prop} {xop xst xvo xhe xns xnm xsl xpa xtr xtd xhp xcc xfi xwa xse xlo : Int32} {a1 a2 a3 a4 a5 a6 a7 a8 a9 a10 a11 a12 a13 a14 a15 a16 : Nat → Int32} {m : Nat} (hv : tp_V8 a8) (hm : m < 3) (H : post (nI (tp_of (tp_hit a8 m)))) : wpX_holdersOn post (xop, xst, xvo, xhe, xns, xnm, xsl, xpa, xtr, xtd, xhp, xcc, xfi, xwa, xse, xlo, a1, a2, a3, a4, a5, a6, a7, a8, a9, a10, a11, a12, a13, a14, a15, a16) (nI m) := by
  show ∃ n, wX_holdersOn_4 post xop xst xvo xhe xns xnm xsl xpa xtr xtd xhp xcc xfi xwa xse xlo a1 a2 a3 a4 a5 a6 a7 a8 a9 a10 a11 a12 a13 a14 a15 a16 n 0 (nI m)
  refine ⟨5, ?_⟩
  have h0 : (0 : Int32) = nI (tp_of (fun _ => false)) := by decide
  rw [h0]
  refine tp_ho_step hv (by omega) ?_
  refine tp_ho_step hv (by omega) ?_
  refine tp_ho_step hv (by omega) ?_
  refine tp_ho_step hv (by omega) ?_
  refine pk_le 12 (m + 3 + 3 + 3 + 3) (fun _ => ?_) (fun z => absurd z (by omega))
  rw [tp_of_cg (g := tp_hit a8 m) (fun t ht => by simp [tp_hit])]
  exact H
def tp_r1 (a : Nat → Int32) (t k : Nat) : Nat → Int32 := upd a k (if a k = nI t then -1 else a k)
def tp_r8 (a : Nat → Int32) (t m : Nat) : Nat → Int32 := fun k => if k < 12 ∧ k % 3 = m ∧ a k = nI t then -1 else a k
def tp_b8 (a : Nat → Int32) (t : Nat) : Nat → Int32 := fun k => if k < 12 ∧ a k = nI t then -1 else a k
def tp_z3 (a : Nat → Int32) (t : Nat) : Nat → Int32 := fun i => if i / 3 = t then 0 else a i
theorem tp_r1_V {a : Nat → Int32} {t k : Nat} (h : tp_V8 a) : tp_V8 (tp_r1 a t k) := by
  intro j hj
  unfold tp_r1 upd
  by_cases e : j = k
  · rw [if_pos e]
    by_cases e2 : a k = nI t
    · rw [if_pos e2]; exact Or.inl rfl
    · rw [if_neg e2, ← e]; exact h j hj
  · rw [if_neg e]; exact h j hj
theorem tp_r8_V {a : Nat → Int32} {t m : Nat} (h : tp_V8 a) : tp_V8 (tp_r8 a t m) := by
  intro j hj
  unfold tp_r8
  by_cases e : j < 12 ∧ j % 3 = m ∧ a j = nI t
  · rw [if_pos e]; exact Or.inl rfl
  · rw [if_neg e]; exact h j hj
theorem tp_b8_V {a : Nat → Int32} {t : Nat} (h : tp_V8 a) : tp_V8 (tp_b8 a t) := by
  intro j hj
  unfold tp_b8
  by_cases e : j < 12 ∧ a j = nI t
  · rw [if_pos e]; exact Or.inl rfl
  · rw [if_neg e]; exact h j hj
theorem tp_r1_at (a : Nat → Int32) (t k j : Nat) : tp_r1 a t k j = if j = k ∧ a j = nI t then -1 else a j := by
  unfold tp_r1 upd
  by_cases e : j = k
  · subst e; simp
  · simp [e]
theorem tp_r1_ne (a : Nat → Int32) (t : Nat) {k j : Nat} (h : j ≠ k) : tp_r1 a t k j = a j := by
  rw [tp_r1_at, if_neg (fun z => h z.1)]
theorem tp_r1_se (a : Nat → Int32) (t k : Nat) : tp_r1 a t k k = if a k = nI t then -1 else a k := by
  rw [tp_r1_at]
  simp
theorem tp_r8_eq (a : Nat → Int32) (t : Nat) {m : Nat} (hm : m < 3) (ht : t < 4) : tp_r1 (tp_r1 (tp_r1 (tp_r1 a t m) t (m + 3)) t (m + 3 + 3)) t (m + 3 + 3 + 3) = tp_r8 a t m := by
  funext j
  unfold tp_r8
  by_cases c : j < 12 ∧ j % 3 = m
  · have e : (j < 12 ∧ j % 3 = m ∧ a j = nI t) ↔ a j = nI t := ⟨fun z => z.2.2, fun z => ⟨c.1, c.2, z⟩⟩
    simp only [e]
    have : j = m ∨ j = m + 3 ∨ j = m + 3 + 3 ∨ j = m + 3 + 3 + 3 := by omega
    rcases this with h | h | h | h
    · rw [tp_r1_ne _ _ (by omega), tp_r1_ne _ _ (by omega), tp_r1_ne _ _ (by omega), h, tp_r1_se]
    · rw [tp_r1_ne _ _ (by omega), tp_r1_ne _ _ (by omega), h, tp_r1_se, tp_r1_ne _ _ (by omega)]
    · rw [tp_r1_ne _ _ (by omega), h, tp_r1_se, tp_r1_ne _ _ (by omega), tp_r1_ne _ _ (by omega)]
    · rw [h, tp_r1_se, tp_r1_ne _ _ (by omega), tp_r1_ne _ _ (by omega), tp_r1_ne _ _ (by omega)]
  · rw [if_neg (fun z => c ⟨z.1, z.2.1⟩), tp_r1_ne _ _ (by omega), tp_r1_ne _ _ (by omega), tp_r1_ne _ _ (by omega), tp_r1_ne _ _ (by omega)]
theorem tp_b8_eq (a : Nat → Int32) {t : Nat} (ht : t < 4) : tp_r8 (tp_r8 (tp_r8 a t 0) t 1) t 2 = tp_b8 a t := by
  funext j
  have hn : ¬ (-1 : Int32) = nI t := fun z => tp_m1 (show t < 16 by omega) z.symm
  unfold tp_b8 tp_r8
  by_cases e : a j = nI t
  · by_cases c : j < 12
    · have : j % 3 = 0 ∨ j % 3 = 1 ∨ j % 3 = 2 := by omega
      rcases this with h | h | h <;> simp [c, e, h, hn]
    · simp [c]
  · simp [e]
theorem tp_z3_eq (a : Nat → Int32) (t : Nat) : upd (upd (upd a (t * 3 + 0) 0) (t * 3 + 1) 0) (t * 3 + 2) 0 = tp_z3 a t := by
  funext j
  unfold upd tp_z3
  by_cases e : j / 3 = t
  · have : j = t * 3 + 0 ∨ j = t * 3 + 1 ∨ j = t * 3 + 2 := by omega
    rw [if_pos e]
    rcases this with h | h | h
    · rw [if_neg (by omega), if_neg (by omega), if_pos h]
    · rw [if_neg (by omega), if_pos h]
    · rw [if_pos h]
  · have h1 : ¬ j = t * 3 + 0 := by omega
    have h2 : ¬ j = t * 3 + 1 := by omega
    have h3 : ¬ j = t * 3 + 2 := by omega
    rw [if_neg h1, if_neg h2, if_neg h3, if_neg e]
theorem tp_re_step {post : St1 → Prop} {xop xst xvo xhe xns xnm xsl xpa xtr xtd xhp xcc xfi xwa xse xlo : Int32} {a1 a2 a3 a4 a5 a6 a7 a8 a9 a10 a11 a12 a13 a14 a15 a16 : Nat → Int32} {n k t m : Nat} {w : Int32} (hv : tp_V8 a8) (ht : t < 4) (hk : k < 12)
    (H : wX_releaseOn_2 post (nI t) (nI m) xop xst xvo xhe xns xnm xsl xpa xtr xtd xhp xcc xfi xwa xse xlo n (nI (k + 3)) a1 a2 a3 a4 a5 a6 a7 (tp_r1 a8 t k) (upd a9 t (tp_cl w k)) a10 a11 a12 a13 a14 a15 a16) :
    wX_releaseOn_2 post (nI t) (nI m) xop xst xvo xhe xns xnm xsl xpa xtr xtd xhp xcc xfi xwa xse xlo (n + 1) (nI k) a1 a2 a3 a4 a5 a6 a7 a8 (upd a9 t w) a10 a11 a12 a13 a14 a15 a16 := by
  refine pk_le 12 k (fun z => absurd z (by omega)) (fun _ => ⟨pk_in k 12 hk, ?_⟩)
  rw [nI_clamp (show k < 2 ^ 31 by omega)]
  have h9 : upd (upd a9 t w) (nI t).toNatClampNeg (((upd a9 t w (nI t).toNatClampNeg) &&& (((1 : Int32) <<< (nI k &&& 31)) ^^^ (-1))).toInt16.toInt32) = upd a9 t (tp_cl w k) := by
    rw [nI_clamp (show t < 2 ^ 31 by omega), pk_us, tp_uu]
    rfl
  by_cases e : a8 k = nI t
  · have h8 : upd a8 (nI k).toNatClampNeg (vp_nar .byte (-1)) = tp_r1 a8 t k := by
      rw [nI_clamp (show k < 2 ^ 31 by omega), tp_narm]
      unfold tp_r1
      rw [if_pos e]
    refine br_t e ?_
    unfold wX_releaseOn_33
    exact ⟨pk_in k 12 hk, nm_r h8 ⟨pk_in t 4 ht, pk_in t 4 ht, nm_r h9 (nm_r (nI_add k 3) H)⟩⟩
  · have h8 : upd a8 (nI k).toNatClampNeg (vp_nar .byte (a8 k)) = tp_r1 a8 t k := by
      rw [nI_clamp (show k < 2 ^ 31 by omega), tp_nar8 hv hk]
      unfold tp_r1
      rw [if_neg e]
    refine br_f e ⟨pk_in k 12 hk, ?_⟩
    unfold wX_releaseOn_33
    exact ⟨pk_in k 12 hk, nm_r h8 ⟨pk_in t 4 ht, pk_in t 4 ht, nm_r h9 (nm_r (nI_add k 3) H)⟩⟩
theorem tp_releaseOn {post : St1 → Prop} {xop xst xvo xhe xns xnm xsl xpa xtr xtd xhp xcc xfi xwa xse xlo : Int32} {a1 a2 a3 a4 a5 a6 a7 a8 a9 a10 a11 a12 a13 a14 a15 a16 : Nat → Int32} {t m : Nat} (hv : tp_V8 a8) (ht : t < 4) (hm : m < 3)
    (H : post (xop, xst, xvo, xhe, xns, xnm, xsl, xpa, xtr, xtd, xhp, xcc, xfi, xwa, xse, xlo, a1, a2, a3, a4, a5, a6, a7, tp_r8 a8 t m, upd a9 t (tp_c4 (a9 t) m), a10, upd a11 (t * 3 + m) 0, a12, a13, a14, a15, a16)) : wpX_releaseOn post (xop, xst, xvo, xhe, xns, xnm, xsl, xpa, xtr, xtd, xhp, xcc, xfi, xwa, xse, xlo, a1, a2, a3, a4, a5, a6, a7, a8, a9, a10, a11, a12, a13, a14, a15, a16) (nI t) (nI m) := by
  show ∃ n, wX_releaseOn_2 post (nI t) (nI m) xop xst xvo xhe xns xnm xsl xpa xtr xtd xhp xcc xfi xwa xse xlo n (nI m) a1 a2 a3 a4 a5 a6 a7 a8 a9 a10 a11 a12 a13 a14 a15 a16
  refine ⟨5, ?_⟩
  rw [← tp_r8_eq a8 t hm ht] at H
  have h : wX_releaseOn_2 post (nI t) (nI m) xop xst xvo xhe xns xnm xsl xpa xtr xtd xhp xcc xfi xwa xse xlo 5 (nI m) a1 a2 a3 a4 a5 a6 a7 a8 (upd a9 t (a9 t)) a10 a11 a12 a13 a14 a15 a16 := by
    refine tp_re_step hv ht (by omega) ?_
    refine tp_re_step (tp_r1_V hv) ht (by omega) ?_
    refine tp_re_step (tp_r1_V (tp_r1_V hv)) ht (by omega) ?_
    refine tp_re_step (tp_r1_V (tp_r1_V (tp_r1_V hv))) ht (by omega) ?_
    exact pk_le 12 (m + 3 + 3 + 3 + 3) (fun _ => ⟨pk_in (t * 3 + m) 12 (by omega) tp_ix3, nm_r (by rw [tp_ix3, nI_clamp (show t * 3 + m < 2 ^ 31 by omega)]) H⟩) (fun z => absurd z (by omega))
  rw [tp_ui] at h
  exact h
theorem tp_rollBack {post : St1 → Prop} {xop xst xvo xhe xns xnm xsl xpa xtr xtd xhp xcc xfi xwa xse xlo : Int32} {a1 a2 a3 a4 a5 a6 a7 a8 a9 a10 a11 a12 a13 a14 a15 a16 : Nat → Int32} {t : Nat} {f : Nat → Bool} (hv : tp_V8 a8) (ht : t < 4) (hw : tp_W12 (a9 t)) (ho : xop = nI (tp_of f))
    (H : post (nI (tp_of (tp_ub f t false)), xst, xvo, xhe, xns, xnm, xsl, xpa, xtr, xtd, xhp, xcc, xfi, xwa, xse, xlo, a1, a2, a3, a4, a5, a6, a7, tp_b8 a8 t, upd a9 t 0, a10, tp_z3 a11 t, a12, a13, a14, a15, a16)) : wpX_rollBack post (xop, xst, xvo, xhe, xns, xnm, xsl, xpa, xtr, xtd, xhp, xcc, xfi, xwa, xse, xlo, a1, a2, a3, a4, a5, a6, a7, a8, a9, a10, a11, a12, a13, a14, a15, a16) (nI t) := by
  show ∃ n, wX_rollBack_2 post (nI t) n 0 xop xst xvo xhe xns xnm xsl xpa xtr xtd xhp xcc xfi xwa xse xlo a1 a2 a3 a4 a5 a6 a7 a8 a9 a10 a11 a12 a13 a14 a15 a16
  refine ⟨4, ?_⟩
  refine pk_le 3 0 (fun z => absurd z (by omega)) (fun _ => ?_)
  refine tp_releaseOn (m := 0) hv ht (by omega) ?_
  refine nm_r (nI_1 0) ?_
  refine pk_le 3 1 (fun z => absurd z (by omega)) (fun _ => ?_)
  refine tp_releaseOn (m := 1) (tp_r8_V hv) ht (by omega) ?_
  refine nm_r (nI_1 1) ?_
  refine pk_le 3 2 (fun z => absurd z (by omega)) (fun _ => ?_)
  refine tp_releaseOn (m := 2) (tp_r8_V (tp_r8_V hv)) ht (by omega) ?_
  refine nm_r (nI_1 2) ?_
  refine pk_le 3 3 (fun _ => ?_) (fun z => absurd z (by omega))
  refine nm_r (e' := nI (tp_of (tp_ub f t false))) (by rw [ho]; exact tp_of_clr f t ht) ?_
  rw [tp_b8_eq a8 ht, tp_z3_eq, tp_uu, pk_us, pk_us, tp_uu, tp_c4_all hw]
  exact H
theorem tp_isOpen {post : Int32 → Prop} {xop xst xvo xhe xns xnm xsl xpa xtr xtd xhp xcc xfi xwa xse xlo : Int32} {a1 a2 a3 a4 a5 a6 a7 a8 a9 a10 a11 a12 a13 a14 a15 a16 : Nat → Int32} {t : Nat} {f : Nat → Bool} (ht : t < 4) (ho : xop = nI (tp_of f)) (H0 : f t = false → post 0) (H1 : f t = true → post 1) : wpX_isOpen post (xop, xst, xvo, xhe, xns, xnm, xsl, xpa, xtr, xtd, xhp, xcc, xfi, xwa, xse, xlo, a1, a2, a3, a4, a5, a6, a7, a8, a9, a10, a11, a12, a13, a14, a15, a16) (nI t) := by
  show (nI t < 0 → post 0) ∧ _
  refine pk_lt t 0 (fun z => absurd z (by omega)) (fun _ => ?_)
  refine pk_le 4 t (fun z => absurd z (by omega)) (fun _ => ?_)
  rw [ho]
  refine br_c (fun z => H0 ((tp_of_tst f t ht).mp z)) (fun z => H1 ?_)
  cases hf : f t
  · exact absurd ((tp_of_tst f t ht).mpr hf) z
  · rfl
theorem tp_isOpenX {post : Int32 → Prop} {xop xst xvo xhe xns xnm xsl xpa xtr xtd xhp xcc xfi xwa xse xlo : Int32} {a1 a2 a3 a4 a5 a6 a7 a8 a9 a10 a11 a12 a13 a14 a15 a16 : Nat → Int32} {x : Int32} (hx : x < 0 ∨ 4 ≤ x) (H0 : post 0) : wpX_isOpen post (xop, xst, xvo, xhe, xns, xnm, xsl, xpa, xtr, xtd, xhp, xcc, xfi, xwa, xse, xlo, a1, a2, a3, a4, a5, a6, a7, a8, a9, a10, a11, a12, a13, a14, a15, a16) x := by
  rcases hx with h | h
  · exact br_t h H0
  · exact br_c (fun _ => H0) (fun _ => br_t h H0)
theorem tp_isPart {post : Int32 → Prop} {xop xst xvo xhe xns xnm xsl xpa xtr xtd xhp xcc xfi xwa xse xlo : Int32} {a1 a2 a3 a4 a5 a6 a7 a8 a9 a10 a11 a12 a13 a14 a15 a16 : Nat → Int32} {m : Nat} {f : Nat → Bool} (hm : m < 4) (hp : xpa = nI (tp_of f)) (H0 : f m = false → post 0) (H1 : f m = true → post 1) : wpX_isPart post (xop, xst, xvo, xhe, xns, xnm, xsl, xpa, xtr, xtd, xhp, xcc, xfi, xwa, xse, xlo, a1, a2, a3, a4, a5, a6, a7, a8, a9, a10, a11, a12, a13, a14, a15, a16) (nI m) := by
  show (((xpa >>> (nI m &&& 31)) &&& 1) = 0 → post 0) ∧ _
  rw [hp]
  refine br_c (fun z => H0 ((tp_of_tst f m hm).mp z)) (fun z => H1 ?_)
  cases hf : f m
  · exact absurd ((tp_of_tst f m hm).mpr hf) z
  · rfl
end
section
/-! logs as lists: entries (kind, transaction, key, number) -/
abbrev tp_Ent : Type := Nat × Nat × Nat × Int32
def tp_LA (m : Nat) (l : List tp_Ent) (a2 a3 a4 a5 a6 : Nat → Int32) : Prop := a2 m = nI l.length ∧ ∀ i e, l[i]? = some e → a3 (m * 64 + i) = nI e.1 ∧ a4 (m * 64 + i) = nI e.2.1 ∧ a5 (m * 64 + i) = nI e.2.2.1 ∧ a6 (m * 64 + i) = e.2.2.2
def tp_LB (l : List tp_Ent) : Prop := l.length ≤ 64 ∧ ∀ e, e ∈ l → e.1 < 16 ∧ e.2.1 < 1048576 ∧ e.2.2.1 < 12
def tp_LAs (lg : Nat → List tp_Ent) (a2 a3 a4 a5 a6 : Nat → Int32) : Prop := ∀ m, m < 4 → tp_LA m (lg m) a2 a3 a4 a5 a6 ∧ tp_LB (lg m)
def tp_ul (lg : Nat → List tp_Ent) (m : Nat) (l : List tp_Ent) : Nat → List tp_Ent := fun j => if j = m then l else lg j
theorem tp_LAs_cg {lg lg' : Nat → List tp_Ent} {a2 a3 a4 a5 a6 : Nat → Int32} (h : ∀ m, m < 4 → lg m = lg' m) (k : tp_LAs lg a2 a3 a4 a5 a6) : tp_LAs lg' a2 a3 a4 a5 a6 := by
  intro m hm
  rw [← h m hm]
  exact k m hm
def tp_has (l : List tp_Ent) (kd tr : Nat) : Bool := l.any (fun e => decide (e.1 = kd) && decide (e.2.1 = tr))
def tp_apl : List tp_Ent → Nat → (Nat → Int32) → (Nat → Int32)
  | [], _, b => b
  | e :: l, tr, b => tp_apl l tr (if e.1 = 1 ∧ e.2.1 = tr then upd b e.2.2.1 e.2.2.2 else b)
def tp_rpl (L : List tp_Ent) : List tp_Ent → (Nat → Int32) → (Nat → Int32)
  | [], b => b
  | e :: l, b => tp_rpl L l (if e.1 = 3 then tp_apl L e.2.1 b else b)
def tp_opn : List tp_Ent → Nat → Nat
  | [], o => o
  | e :: l, o => tp_opn l (if e.1 = 2 then e.2.1 else if e.1 = 3 ∨ e.1 = 4 then 0 else o)
def tp_hl8 : List tp_Ent → Nat → Nat → (Nat → Int32) → (Nat → Int32)
  | [], _, _, b => b
  | e :: l, tr, sl, b => tp_hl8 l tr sl (if e.1 = 1 ∧ e.2.1 = tr then upd b e.2.2.1 (nI sl) else b)
def tp_hl9 : List tp_Ent → Nat → Int32 → Int32
  | [], _, w => w
  | e :: l, tr, w => tp_hl9 l tr (if e.1 = 1 ∧ e.2.1 = tr then tp_se w e.2.2.1 else w)
def tp_h10 : List tp_Ent → Nat → Nat → (Nat → Int32) → (Nat → Int32)
  | [], _, _, b => b
  | e :: l, tr, sl, b => tp_h10 l tr sl (if e.1 = 1 ∧ e.2.1 = tr then upd b (sl * 12 + e.2.2.1) e.2.2.2 else b)
def tp_i7 (a1 a7 : Nat → Int32) (m : Nat) : Nat → Int32 := fun k => if k < 12 ∧ k % 3 = m then a1 k else a7 k
theorem tp_mid (pre suf : List tp_Ent) (e : tp_Ent) {i : Nat} (hi : pre.length = i) : (pre ++ e :: suf)[i]? = some e := by
  subst hi
  simp
theorem tp_isl {post : Int32 → Prop} {xop xst xvo xhe xns xnm xsl xpa xtr xtd xhp xcc xfi xwa xse xlo : Int32} {a1 a2 a3 a4 a5 a6 a7 a8 a9 a10 a11 a12 a13 a14 a15 a16 : Nat → Int32} {m kd tr : Nat} {l : List tp_Ent} (hm : m < 4) (hl : tp_LA m l a2 a3 a4 a5 a6) (hb : tp_LB l) (hkd : kd < 16) (htr : tr < 1048576)
    (H0 : tp_has l kd tr = false → post 0) (H1 : tp_has l kd tr = true → post 1) :
    ∀ (suf pre : List tp_Ent) (i : Nat), l = pre ++ suf → pre.length = i → tp_has pre kd tr = false → wX_isLogged_6 post (nI m) (nI kd) (nI tr) xop xst xvo xhe xns xnm xsl xpa xtr xtd xhp xcc xfi xwa xse xlo a1 a2 a3 a4 a5 a6 a7 a8 a9 a10 a11 a12 a13 a14 a15 a16 (suf.length + 1) (nI (m * 64 + i)) := by
  intro suf
  induction suf with
  | nil =>
    intro pre i h hi hp
    rw [List.append_nil] at h
    subst h
    have hlen := hb.1
    refine And.intro (pk_in m 4 hm) ?_
    rw [nI_clamp (show m < 2 ^ 31 by omega), hl.1, tp_ix64]
    exact pk_le (m * 64 + l.length) (m * 64 + i) (fun _ => H0 hp) (fun z => absurd z (by omega))
  | cons e suf ih =>
    intro pre i h hi hp
    have hlen := hb.1
    have hlen2 : l.length = i + (suf.length + 1) := by rw [h, List.length_append, hi]; rfl
    have hx : l[i]? = some e := by rw [h]; exact tp_mid pre suf e hi
    have he := hb.2 e (List.mem_of_getElem? hx)
    obtain ⟨h3, h4, _, _⟩ := hl.2 i e hx
    have ih' := ih (pre ++ [e]) (i + 1) (by rw [h]; simp) (by simp [hi])
    refine And.intro (pk_in m 4 hm) ?_
    rw [nI_clamp (show m < 2 ^ 31 by omega), hl.1, tp_ix64]
    refine pk_le (m * 64 + l.length) (m * 64 + i) (fun z => absurd z (by omega)) (fun _ => ⟨pk_in (m * 64 + i) 256 (by omega), ?_⟩)
    rw [nI_clamp (show m * 64 + i < 2 ^ 31 by omega), h3]
    refine pk_eq e.1 kd (fun z => ⟨pk_in (m * 64 + i) 256 (by omega), ?_⟩) (fun z => nm_r (nI_1 _) (ih' ?_))
    · rw [h4]
      refine pk_eq e.2.1 tr (fun z2 => H1 ?_) (fun z2 => nm_r (nI_1 _) (ih' ?_))
      · rw [h]
        unfold tp_has
        simp [z, z2]
      · unfold tp_has at hp ⊢
        rw [List.any_append, hp]
        simp [z2]
    · unfold tp_has at hp ⊢
      rw [List.any_append, hp]
      simp [z]
theorem tp_isLogged {post : Int32 → Prop} {xop xst xvo xhe xns xnm xsl xpa xtr xtd xhp xcc xfi xwa xse xlo : Int32} {a1 a2 a3 a4 a5 a6 a7 a8 a9 a10 a11 a12 a13 a14 a15 a16 : Nat → Int32} {m kd tr : Nat} {l : List tp_Ent} (hm : m < 4) (hl : tp_LA m l a2 a3 a4 a5 a6) (hb : tp_LB l) (hkd : kd < 16) (htr : tr < 1048576)
    (H0 : tp_has l kd tr = false → post 0) (H1 : tp_has l kd tr = true → post 1) : wpX_isLogged post (xop, xst, xvo, xhe, xns, xnm, xsl, xpa, xtr, xtd, xhp, xcc, xfi, xwa, xse, xlo, a1, a2, a3, a4, a5, a6, a7, a8, a9, a10, a11, a12, a13, a14, a15, a16) (nI m) (nI kd) (nI tr) := by
  show ∀ x4_1 : Int32, x4_1 = nI m * 64 → ∃ n, wX_isLogged_6 post (nI m) (nI kd) (nI tr) xop xst xvo xhe xns xnm xsl xpa xtr xtd xhp xcc xfi xwa xse xlo a1 a2 a3 a4 a5 a6 a7 a8 a9 a10 a11 a12 a13 a14 a15 a16 n x4_1
  refine nm_r (pk_mul m 64) ⟨l.length + 1, ?_⟩
  exact tp_isl hm hl hb hkd htr H0 H1 l [] 0 rfl rfl rfl
theorem tp_apl_loop {post : St1 → Prop} {xop xst xvo xhe xns xnm xsl xpa xtr xtd xhp xcc xfi xwa xse xlo : Int32} {a1 a2 a3 a4 a5 a6 a8 a9 a10 a11 a12 a13 a14 a15 a16 : Nat → Int32} {m tr : Nat} {l : List tp_Ent} (hm : m < 4) (hl : tp_LA m l a2 a3 a4 a5 a6) (hb : tp_LB l) (htr : tr < 1048576) :
    ∀ (suf pre : List tp_Ent) (i : Nat) (b : Nat → Int32), l = pre ++ suf → pre.length = i → post (xop, xst, xvo, xhe, xns, xnm, xsl, xpa, xtr, xtd, xhp, xcc, xfi, xwa, xse, xlo, a1, a2, a3, a4, a5, a6, tp_apl suf tr b, a8, a9, a10, a11, a12, a13, a14, a15, a16) → wX_applyLogged_5 post (nI m) (nI tr) xop xst xvo xhe xns xnm xsl xpa xtr xtd xhp xcc xfi xwa xse xlo (suf.length + 1) (nI (m * 64 + i)) a1 a2 a3 a4 a5 a6 b a8 a9 a10 a11 a12 a13 a14 a15 a16 := by
  intro suf
  induction suf with
  | nil =>
    intro pre i b h hi hp
    rw [List.append_nil] at h
    subst h
    have hlen := hb.1
    refine And.intro (pk_in m 4 hm) ?_
    rw [nI_clamp (show m < 2 ^ 31 by omega), hl.1, tp_ix64]
    exact pk_le (m * 64 + l.length) (m * 64 + i) (fun _ => hp) (fun z => absurd z (by omega))
  | cons e suf ih =>
    intro pre i b h hi hp
    have hlen := hb.1
    have hlen2 : l.length = i + (suf.length + 1) := by rw [h, List.length_append, hi]; rfl
    have hx : l[i]? = some e := by rw [h]; exact tp_mid pre suf e hi
    have he := hb.2 e (List.mem_of_getElem? hx)
    obtain ⟨h3, h4, h5, h6⟩ := hl.2 i e hx
    have ih' := fun b' => ih (pre ++ [e]) (i + 1) b' (by rw [h]; simp) (by simp [hi])
    unfold tp_apl at hp
    refine And.intro (pk_in m 4 hm) ?_
    rw [nI_clamp (show m < 2 ^ 31 by omega), hl.1, tp_ix64]
    refine pk_le (m * 64 + l.length) (m * 64 + i) (fun z => absurd z (by omega)) (fun _ => ⟨pk_in (m * 64 + i) 256 (by omega), ?_⟩)
    rw [nI_clamp (show m * 64 + i < 2 ^ 31 by omega), h3]
    refine pk_eq e.1 1 (fun z => ⟨pk_in (m * 64 + i) 256 (by omega), ?_⟩) (fun z => nm_r (nI_1 _) (ih' b ?_))
    · rw [h4]
      refine pk_eq e.2.1 tr (fun z2 => ⟨pk_in (m * 64 + i) 256 (by omega), pk_in (m * 64 + i) 256 (by omega), ?_⟩) (fun z2 => nm_r (nI_1 _) (ih' b ?_))
      · rw [h5, h6, nI_clamp (show e.2.2.1 < 2 ^ 31 by omega)]
        refine ⟨pk_in e.2.2.1 12 he.2.2, nm_e (nm_r (nI_1 _) (ih' _ ?_))⟩
        rw [if_pos ⟨z, z2⟩] at hp
        exact hp
      · rw [if_neg (fun t => z2 t.2)] at hp
        exact hp
    · rw [if_neg (fun t => z t.1)] at hp
      exact hp
theorem tp_applyLogged {post : St1 → Prop} {xop xst xvo xhe xns xnm xsl xpa xtr xtd xhp xcc xfi xwa xse xlo : Int32} {a1 a2 a3 a4 a5 a6 a7 a8 a9 a10 a11 a12 a13 a14 a15 a16 : Nat → Int32} {m tr : Nat} {l : List tp_Ent} (hm : m < 4) (hl : tp_LA m l a2 a3 a4 a5 a6) (hb : tp_LB l) (htr : tr < 1048576)
    (H : post (xop, xst, xvo, xhe, xns, xnm, xsl, xpa, xtr, xtd, xhp, xcc, xfi, xwa, xse, xlo, a1, a2, a3, a4, a5, a6, tp_apl l tr a7, a8, a9, a10, a11, a12, a13, a14, a15, a16)) : wpX_applyLogged post (xop, xst, xvo, xhe, xns, xnm, xsl, xpa, xtr, xtd, xhp, xcc, xfi, xwa, xse, xlo, a1, a2, a3, a4, a5, a6, a7, a8, a9, a10, a11, a12, a13, a14, a15, a16) (nI m) (nI tr) := by
  show ∀ x3_1 : Int32, x3_1 = nI m * 64 → ∃ n, wX_applyLogged_5 post (nI m) (nI tr) xop xst xvo xhe xns xnm xsl xpa xtr xtd xhp xcc xfi xwa xse xlo n x3_1 a1 a2 a3 a4 a5 a6 a7 a8 a9 a10 a11 a12 a13 a14 a15 a16
  refine nm_r (pk_mul m 64) ⟨l.length + 1, ?_⟩
  exact tp_apl_loop hm hl hb htr l [] 0 a7 rfl rfl H
theorem tp_writeKey {post : St1 → Prop} {xop xst xvo xhe xns xnm xsl xpa xtr xtd xhp xcc xfi xwa xse xlo : Int32} {a1 a2 a3 a4 a5 a6 a7 a8 a9 a10 a11 a12 a13 a14 a15 a16 : Nat → Int32} {t k : Nat} {v : Int32} (ht : t < 4) (hk : k < 12) (H : post (xop, xst, xvo, xhe, xns, xnm, xsl, xpa, xtr, xtd, xhp, xcc, xfi, xwa, xse, xlo, a1, a2, a3, a4, a5, a6, a7, upd a8 k (nI t), upd a9 t (tp_se (a9 t) k), upd a10 (t * 12 + k) v, a11, a12, a13, a14, a15, a16)) : wpX_writeKey post (xop, xst, xvo, xhe, xns, xnm, xsl, xpa, xtr, xtd, xhp, xcc, xfi, xwa, xse, xlo, a1, a2, a3, a4, a5, a6, a7, a8, a9, a10, a11, a12, a13, a14, a15, a16) (nI t) (nI k) v := by
  refine And.intro (pk_in k 12 hk) (nm_r (e' := upd a8 k (nI t)) (by rw [nI_clamp (show k < 2 ^ 31 by omega), tp_by t (by omega)]) ?_)
  refine ⟨pk_in t 4 ht, pk_in t 4 ht, nm_r (e' := upd a9 t (tp_se (a9 t) k)) (by rw [nI_clamp (show t < 2 ^ 31 by omega)]; rfl) ?_⟩
  exact ⟨pk_in (t * 12 + k) 48 (by omega) tp_ix12, nm_r (by rw [tp_ix12, nI_clamp (show t * 12 + k < 2 ^ 31 by omega)]) H⟩
theorem tp_hl_loop {post : St1 → Prop} {xop xst xvo xhe xns xnm xpa xtr xtd xhp xcc xfi xwa xse xlo : Int32} {a1 a2 a3 a4 a5 a6 a7 a9 a11 a12 a13 a14 a15 a16 : Nat → Int32} {m tr sl : Nat} {l : List tp_Ent} (hm : m < 3) (hl : tp_LA m l a2 a3 a4 a5 a6) (hb : tp_LB l) (htr : tr < 1048576) (hs : sl < 4) :
    ∀ (suf pre : List tp_Ent) (i : Nat) (b8 : Nat → Int32) (w : Int32) (b10 : Nat → Int32), l = pre ++ suf → pre.length = i →
      post (xop, xst, xvo, xhe, xns, xnm, nI sl, xpa, xtr, xtd, xhp, xcc, xfi, xwa, xse, xlo, a1, a2, a3, a4, a5, a6, a7, tp_hl8 suf tr sl b8, upd a9 sl (tp_hl9 suf tr w), tp_h10 suf tr sl b10, upd a11 (sl * 3 + m) (nI tr), a12, a13, a14, a15, a16) →
      wX_holdLogged_5 post (nI m) (nI tr) (suf.length + 1) (nI (m * 64 + i)) xop xst xvo xhe xns xnm (nI sl) xpa xtr xtd xhp xcc xfi xwa xse xlo a1 a2 a3 a4 a5 a6 a7 b8 (upd a9 sl w) b10 a11 a12 a13 a14 a15 a16 := by
  intro suf
  induction suf with
  | nil =>
    intro pre i b8 w b10 h hi hp
    rw [List.append_nil] at h
    subst h
    have hlen := hb.1
    refine And.intro (pk_in m 4 (by omega)) ?_
    rw [nI_clamp (show m < 2 ^ 31 by omega), hl.1, tp_ix64]
    exact pk_le (m * 64 + l.length) (m * 64 + i) (fun _ => ⟨pk_in (sl * 3 + m) 12 (by omega) tp_ix3, nm_r (by rw [tp_ix3, nI_clamp (show sl * 3 + m < 2 ^ 31 by omega)]) hp⟩) (fun z => absurd z (by omega))
  | cons e suf ih =>
    intro pre i b8 w b10 h hi hp
    have hlen := hb.1
    have hlen2 : l.length = i + (suf.length + 1) := by rw [h, List.length_append, hi]; rfl
    have hx : l[i]? = some e := by rw [h]; exact tp_mid pre suf e hi
    have he := hb.2 e (List.mem_of_getElem? hx)
    obtain ⟨h3, h4, h5, h6⟩ := hl.2 i e hx
    have ih' := fun b8' w' b10' => ih (pre ++ [e]) (i + 1) b8' w' b10' (by rw [h]; simp) (by simp [hi])
    unfold tp_hl8 tp_hl9 tp_h10 at hp
    refine And.intro (pk_in m 4 (by omega)) ?_
    rw [nI_clamp (show m < 2 ^ 31 by omega), hl.1, tp_ix64]
    refine pk_le (m * 64 + l.length) (m * 64 + i) (fun z => absurd z (by omega)) (fun _ => ⟨pk_in (m * 64 + i) 256 (by omega), ?_⟩)
    rw [nI_clamp (show m * 64 + i < 2 ^ 31 by omega), h3]
    refine pk_eq e.1 1 (fun z => ⟨pk_in (m * 64 + i) 256 (by omega), ?_⟩) (fun z => nm_r (nI_1 _) (ih' b8 w b10 ?_))
    · rw [h4]
      refine pk_eq e.2.1 tr (fun z2 => ⟨pk_in (m * 64 + i) 256 (by omega), pk_in (m * 64 + i) 256 (by omega), ?_⟩) (fun z2 => nm_r (nI_1 _) (ih' b8 w b10 ?_))
      · rw [h5, h6]
        refine tp_writeKey hs he.2.2 ?_
        refine nm_r (nI_1 _) ?_
        rw [pk_us, tp_uu]
        refine ih' _ _ _ ?_
        have c : e.1 = 1 ∧ e.2.1 = tr := ⟨z, z2⟩
        rw [if_pos c, if_pos c, if_pos c] at hp
        exact hp
      · have c : ¬ (e.1 = 1 ∧ e.2.1 = tr) := fun t => z2 t.2
        rw [if_neg c, if_neg c, if_neg c] at hp
        exact hp
    · have c : ¬ (e.1 = 1 ∧ e.2.1 = tr) := fun t => z t.1
      rw [if_neg c, if_neg c, if_neg c] at hp
      exact hp
theorem tp_holdLogged {post : St1 → Prop} {xop xst xvo xhe xns xnm xpa xtr xtd xhp xcc xfi xwa xse xlo : Int32} {a1 a2 a3 a4 a5 a6 a7 a8 a9 a10 a11 a12 a13 a14 a15 a16 : Nat → Int32} {m tr sl : Nat} {l : List tp_Ent} (hm : m < 3) (hl : tp_LA m l a2 a3 a4 a5 a6) (hb : tp_LB l) (htr : tr < 1048576) (hs : sl < 4)
    (H : post (xop, xst, xvo, xhe, xns, xnm, nI sl, xpa, xtr, xtd, xhp, xcc, xfi, xwa, xse, xlo, a1, a2, a3, a4, a5, a6, a7, tp_hl8 l tr sl a8, upd a9 sl (tp_hl9 l tr (a9 sl)), tp_h10 l tr sl a10, upd a11 (sl * 3 + m) (nI tr), a12, a13, a14, a15, a16)) :
    wpX_holdLogged post (xop, xst, xvo, xhe, xns, xnm, nI sl, xpa, xtr, xtd, xhp, xcc, xfi, xwa, xse, xlo, a1, a2, a3, a4, a5, a6, a7, a8, a9, a10, a11, a12, a13, a14, a15, a16) (nI m) (nI tr) := by
  show ∀ x3_1 : Int32, x3_1 = nI m * 64 → ∃ n, wX_holdLogged_5 post (nI m) (nI tr) n x3_1 xop xst xvo xhe xns xnm (nI sl) xpa xtr xtd xhp xcc xfi xwa xse xlo a1 a2 a3 a4 a5 a6 a7 a8 a9 a10 a11 a12 a13 a14 a15 a16
  refine nm_r (pk_mul m 64) ⟨l.length + 1, ?_⟩
  have h := tp_hl_loop hm hl hb htr hs l [] 0 a8 (a9 sl) a10 rfl rfl H
  rw [tp_ui] at h
  exact h
theorem tp_cb_loop {post : St1 → Prop} {xop xst xvo xhe xns xnm xsl xpa xtr xtd xhp xcc xfi xwa xse xlo : Int32} {a1 a2 a3 a4 a5 a6 a8 a9 a10 a11 a12 a13 a14 a15 a16 : Nat → Int32} {m sl : Nat} {l : List tp_Ent} (hm : m < 3) (hl : tp_LA m l a2 a3 a4 a5 a6) (hb : tp_LB l)
    (hs : tp_opn l 0 ≠ 0 → sl < 4 ∧ xsl = nI sl) :
    ∀ (suf pre : List tp_Ent) (i : Nat) (o : Nat) (b : Nat → Int32), l = pre ++ suf → pre.length = i → o < 1048576 → tp_opn suf o = tp_opn l 0 →
      (tp_opn l 0 = 0 → post (xop, xst, xvo, xhe, xns, xnm, xsl, xpa, xtr, xtd, xhp, xcc, xfi, xwa, xse, xlo, a1, a2, a3, a4, a5, a6, tp_rpl l suf b, a8, a9, a10, a11, a12, a13, a14, a15, a16)) →
      (tp_opn l 0 ≠ 0 → post (xop, xst, xvo, xhe, xns, xnm, nI sl, xpa, xtr, xtd, xhp, xcc, xfi, xwa, xse, xlo, a1, a2, a3, a4, a5, a6, tp_rpl l suf b, tp_hl8 l (tp_opn l 0) sl a8, upd a9 sl (tp_hl9 l (tp_opn l 0) (a9 sl)), tp_h10 l (tp_opn l 0) sl a10, upd a11 (sl * 3 + m) (nI (tp_opn l 0)), a12, a13, a14, a15, a16)) →
      wX_comeBack_33 post (nI m) (suf.length + 1) (nI o) (nI (m * 64 + i)) xop xst xvo xhe xns xnm xsl xpa xtr xtd xhp xcc xfi xwa xse xlo a1 a2 a3 a4 a5 a6 b a8 a9 a10 a11 a12 a13 a14 a15 a16 := by
  intro suf
  induction suf with
  | nil =>
    intro pre i o b h hi ho hoo H0 H1
    rw [List.append_nil] at h
    subst h
    have hlen := hb.1
    refine And.intro (pk_in m 4 (by omega)) ?_
    rw [nI_clamp (show m < 2 ^ 31 by omega), hl.1, tp_ix64]
    refine pk_le (m * 64 + l.length) (m * 64 + i) (fun _ => ?_) (fun z => absurd z (by omega))
    have hoo' : o = tp_opn l 0 := hoo
    refine pk_eq o 0 (fun z => H0 (by omega)) (fun z => ?_)
    have hne : tp_opn l 0 ≠ 0 := by omega
    obtain ⟨hs4, hsl⟩ := hs hne
    subst hsl
    rw [hoo']
    exact tp_holdLogged hm hl hb (by omega) hs4 (H1 hne)
  | cons e suf ih =>
    intro pre i o b h hi ho hoo H0 H1
    have hlen := hb.1
    have hlen2 : l.length = i + (suf.length + 1) := by rw [h, List.length_append, hi]; rfl
    have hx : l[i]? = some e := by rw [h]; exact tp_mid pre suf e hi
    have he := hb.2 e (List.mem_of_getElem? hx)
    obtain ⟨h3, h4, h5, h6⟩ := hl.2 i e hx
    have ih' := fun o' b' => ih (pre ++ [e]) (i + 1) o' b' (by rw [h]; simp) (by simp [hi])
    have hoo : tp_opn suf (if e.1 = 2 then e.2.1 else if e.1 = 3 ∨ e.1 = 4 then 0 else o) = tp_opn l 0 := hoo
    unfold tp_rpl at H0 H1
    refine And.intro (pk_in m 4 (by omega)) ?_
    rw [nI_clamp (show m < 2 ^ 31 by omega), hl.1, tp_ix64]
    refine pk_le (m * 64 + l.length) (m * 64 + i) (fun z => absurd z (by omega)) (fun _ => ⟨pk_in (m * 64 + i) 256 (by omega), ?_⟩)
    rw [nI_clamp (show m * 64 + i < 2 ^ 31 by omega), h3, h4]
    refine nm_e ⟨pk_in (m * 64 + i) 256 (by omega), ?_⟩
    refine pk_eq e.1 2 (fun z => nm_r (nI_1 _) (ih' e.2.1 b he.2.1 ?_ ?_ ?_)) (fun z => ⟨pk_in (m * 64 + i) 256 (by omega), ?_⟩)
    · rw [if_pos z] at hoo; exact hoo
    · rw [if_neg (show ¬ e.1 = 3 by omega)] at H0; exact H0
    · rw [if_neg (show ¬ e.1 = 3 by omega)] at H1; exact H1
    rw [if_neg z] at hoo
    refine pk_eq e.1 3 (fun z3 => ?_) (fun z3 => ⟨pk_in (m * 64 + i) 256 (by omega), ?_⟩)
    · rw [if_pos z3] at H0 H1
      rw [if_pos (Or.inl z3)] at hoo
      refine tp_applyLogged (by omega) hl hb he.2.1 ?_
      exact nm_r (nI_1 _) (ih' 0 _ (by omega) hoo H0 H1)
    · rw [if_neg z3] at H0 H1
      refine pk_eq e.1 4 (fun z4 => nm_r (nI_1 _) (ih' 0 b (by omega) ?_ H0 H1)) (fun z4 => nm_r (nI_1 _) (ih' o b ho ?_ H0 H1))
      · rw [if_pos (Or.inr z4)] at hoo; exact hoo
      · rw [if_neg (fun t => t.elim z3 z4)] at hoo; exact hoo
theorem tp_i7_eq (a1 a7 : Nat → Int32) {m : Nat} (hm : m < 3) : upd (upd (upd (upd a7 m (a1 m)) (m + 3) (a1 (m + 3))) (m + 3 + 3) (a1 (m + 3 + 3))) (m + 3 + 3 + 3) (a1 (m + 3 + 3 + 3)) = tp_i7 a1 a7 m := by
  funext j
  unfold upd tp_i7
  by_cases c : j < 12 ∧ j % 3 = m
  · have : j = m ∨ j = m + 3 ∨ j = m + 3 + 3 ∨ j = m + 3 + 3 + 3 := by omega
    rw [if_pos c]
    rcases this with h | h | h | h
    · rw [if_neg (by omega), if_neg (by omega), if_neg (by omega), if_pos h, h]
    · rw [if_neg (by omega), if_neg (by omega), if_pos h, h]
    · rw [if_neg (by omega), if_pos h, h]
    · rw [if_pos h, h]
  · rw [if_neg c, if_neg (by omega), if_neg (by omega), if_neg (by omega), if_neg (by omega)]
theorem tp_cb_step {post : St1 → Prop} {xop xst xvo xhe xns xnm xsl xpa xtr xtd xhp xcc xfi xwa xse xlo : Int32} {a1 a2 a3 a4 a5 a6 a7 a8 a9 a10 a11 a12 a13 a14 a15 a16 : Nat → Int32} {m k n : Nat} (hk : k < 12)
    (H : wX_comeBack_2 post (nI m) xop xst xvo xhe xns xnm xsl xpa xtr xtd xhp xcc xfi xwa xse xlo n (nI (k + 3)) a1 a2 a3 a4 a5 a6 (upd a7 k (a1 k)) a8 a9 a10 a11 a12 a13 a14 a15 a16) : wX_comeBack_2 post (nI m) xop xst xvo xhe xns xnm xsl xpa xtr xtd xhp xcc xfi xwa xse xlo (n + 1) (nI k) a1 a2 a3 a4 a5 a6 a7 a8 a9 a10 a11 a12 a13 a14 a15 a16 := by
  refine pk_le 12 k (fun z => absurd z (by omega)) (fun _ => ⟨pk_in k 12 hk, pk_in k 12 hk, ?_⟩)
  exact nm_r (by rw [nI_clamp (show k < 2 ^ 31 by omega)]) (nm_r (nI_add k 3) H)
theorem tp_comeBack {post : St1 → Prop} {xop xst xvo xhe xns xnm xsl xpa xtr xtd xhp xcc xfi xwa xse xlo : Int32} {a1 a2 a3 a4 a5 a6 a7 a8 a9 a10 a11 a12 a13 a14 a15 a16 : Nat → Int32} {m sl : Nat} {l : List tp_Ent} (hm : m < 3) (hl : tp_LA m l a2 a3 a4 a5 a6) (hb : tp_LB l)
    (hs : tp_opn l 0 ≠ 0 → sl < 4 ∧ xsl = nI sl)
    (H0 : tp_opn l 0 = 0 → post (xop, xst, xvo, xhe, xns, xnm, xsl, xpa, xtr, xtd, xhp, xcc, xfi, xwa, xse, xlo, a1, a2, a3, a4, a5, a6, tp_rpl l l (tp_i7 a1 a7 m), a8, a9, a10, a11, a12, a13, a14, a15, a16))
    (H1 : tp_opn l 0 ≠ 0 → post (xop, xst, xvo, xhe, xns, xnm, nI sl, xpa, xtr, xtd, xhp, xcc, xfi, xwa, xse, xlo, a1, a2, a3, a4, a5, a6, tp_rpl l l (tp_i7 a1 a7 m), tp_hl8 l (tp_opn l 0) sl a8, upd a9 sl (tp_hl9 l (tp_opn l 0) (a9 sl)), tp_h10 l (tp_opn l 0) sl a10, upd a11 (sl * 3 + m) (nI (tp_opn l 0)), a12, a13, a14, a15, a16)) :
    wpX_comeBack post (xop, xst, xvo, xhe, xns, xnm, xsl, xpa, xtr, xtd, xhp, xcc, xfi, xwa, xse, xlo, a1, a2, a3, a4, a5, a6, a7, a8, a9, a10, a11, a12, a13, a14, a15, a16) (nI m) := by
  show ∃ n, wX_comeBack_2 post (nI m) xop xst xvo xhe xns xnm xsl xpa xtr xtd xhp xcc xfi xwa xse xlo n (nI m) a1 a2 a3 a4 a5 a6 a7 a8 a9 a10 a11 a12 a13 a14 a15 a16
  refine ⟨5, ?_⟩
  rw [← tp_i7_eq a1 a7 hm] at H0 H1
  refine tp_cb_step (by omega) ?_
  refine tp_cb_step (by omega) ?_
  refine tp_cb_step (by omega) ?_
  refine tp_cb_step (by omega) ?_
  refine pk_le 12 (m + 3 + 3 + 3 + 3) (fun _ => ?_) (fun z => absurd z (by omega))
  refine nm_r (pk_mul m 64) ⟨l.length + 1, ?_⟩
  exact tp_cb_loop hm hl hb hs l [] 0 0 _ rfl rfl (by omega) rfl H0 H1
theorem tp_LA_add {m : Nat} {l : List tp_Ent} {a2 a3 a4 a5 a6 : Nat → Int32} {e : tp_Ent} (h : tp_LA m l a2 a3 a4 a5 a6) :
    tp_LA m (l ++ [e]) (upd a2 m (nI (l.length + 1))) (upd a3 (m * 64 + l.length) (nI e.1)) (upd a4 (m * 64 + l.length) (nI e.2.1)) (upd a5 (m * 64 + l.length) (nI e.2.2.1)) (upd a6 (m * 64 + l.length) e.2.2.2) := by
  refine ⟨by rw [pk_us]; simp, ?_⟩
  intro i e' hx
  rcases Nat.lt_or_ge i l.length with hi | hi
  · rw [List.getElem?_append_left hi] at hx
    have hne : m * 64 + i ≠ m * 64 + l.length := by omega
    rw [pk_un hne, pk_un hne, pk_un hne, pk_un hne]
    exact h.2 i e' hx
  · rw [List.getElem?_append_right hi] at hx
    have h0 : i - l.length = 0 := by
      rcases Nat.eq_zero_or_pos (i - l.length) with z | z
      · exact z
      · rw [List.getElem?_eq_none (show [e].length ≤ i - l.length from z)] at hx
        exact absurd hx (by simp)
    rw [h0] at hx
    have he : e = e' := by simpa using hx
    have hi' : i = l.length := by omega
    subst he hi'
    rw [pk_us, pk_us, pk_us, pk_us]
    exact ⟨rfl, rfl, rfl, rfl⟩
theorem tp_LA_oth {m m' N : Nat} {l' : List tp_Ent} {a2 a3 a4 a5 a6 : Nat → Int32} {x2 x3 x4 x5 x6 : Int32} (hne : m' ≠ m) (hN : N < 64) (hl : l'.length ≤ 64) (h : tp_LA m' l' a2 a3 a4 a5 a6) :
    tp_LA m' l' (upd a2 m x2) (upd a3 (m * 64 + N) x3) (upd a4 (m * 64 + N) x4) (upd a5 (m * 64 + N) x5) (upd a6 (m * 64 + N) x6) := by
  refine ⟨by rw [pk_un hne]; exact h.1, ?_⟩
  intro i e hx
  have hi : i < l'.length := by
    rcases Nat.lt_or_ge i l'.length with z | z
    · exact z
    · rw [List.getElem?_eq_none z] at hx
      exact absurd hx (by simp)
  have hne2 : m' * 64 + i ≠ m * 64 + N := by omega
  rw [pk_un hne2, pk_un hne2, pk_un hne2, pk_un hne2]
  exact h.2 i e hx
theorem tp_log {post : St1 → Prop} {xop xst xvo xhe xns xnm xsl xpa xtr xtd xhp xcc xfi xwa xse xlo : Int32} {a1 a2 a3 a4 a5 a6 a7 a8 a9 a10 a11 a12 a13 a14 a15 a16 : Nat → Int32} {m : Nat} {e : tp_Ent} {lg : Nat → List tp_Ent} (hm : m < 4) (hl : tp_LAs lg a2 a3 a4 a5 a6) (hn : (lg m).length < 64) (he : e.1 < 16 ∧ e.2.1 < 1048576 ∧ e.2.2.1 < 12)
    (H : ∀ b2 b3 b4 b5 b6, tp_LAs (tp_ul lg m (lg m ++ [e])) b2 b3 b4 b5 b6 → post (xop, xst, xvo, xhe, xns, xnm, xsl, xpa, xtr, xtd, xhp, xcc, xfi, xwa, xse, xlo, a1, b2, b3, b4, b5, b6, a7, a8, a9, a10, a11, a12, a13, a14, a15, a16)) :
    wpX_log post (xop, xst, xvo, xhe, xns, xnm, xsl, xpa, xtr, xtd, xhp, xcc, xfi, xwa, xse, xlo, a1, a2, a3, a4, a5, a6, a7, a8, a9, a10, a11, a12, a13, a14, a15, a16) (nI m) (nI e.1) (nI e.2.1) (nI e.2.2.1) e.2.2.2 := by
  obtain ⟨hla, hlb⟩ := hl m hm
  have hi : nI m * 64 + a2 (nI m).toNatClampNeg = nI (m * 64 + (lg m).length) := by
    rw [nI_clamp (show m < 2 ^ 31 by omega), hla.1, tp_ix64]
  have hin : vp_in (nI (m * 64 + (lg m).length)) 256 := vp_in_nI (by omega) (by omega)
  have hc : (nI (m * 64 + (lg m).length)).toNatClampNeg = m * 64 + (lg m).length := nI_clamp (by omega)
  refine And.intro (pk_in m 4 hm) (nm_r hi ?_)
  refine ⟨hin, nm_r (e' := upd a3 (m * 64 + (lg m).length) (nI e.1)) (by rw [hc, tp_by _ he.1]) ?_⟩
  refine ⟨hin, nm_r (e' := upd a4 (m * 64 + (lg m).length) (nI e.2.1)) (by rw [hc]) ?_⟩
  refine ⟨hin, nm_r (e' := upd a5 (m * 64 + (lg m).length) (nI e.2.2.1)) (by rw [hc, tp_by _ (by omega)]) ?_⟩
  refine ⟨hin, nm_r (e' := upd a6 (m * 64 + (lg m).length) e.2.2.2) (by rw [hc]) ?_⟩
  refine ⟨pk_in m 4 hm, pk_in m 4 hm, nm_r (e' := upd a2 m (nI ((lg m).length + 1))) (by rw [nI_clamp (show m < 2 ^ 31 by omega), hla.1, nI_1]) ?_⟩
  refine H _ _ _ _ _ ?_
  intro j hj
  unfold tp_ul
  by_cases c : j = m
  · subst c
    rw [if_pos rfl]
    refine ⟨tp_LA_add hla, ?_, ?_⟩
    · rw [List.length_append]
      show (lg j).length + 1 ≤ 64
      omega
    · intro e' h'
      rcases List.mem_append.mp h' with z | z
      · exact hlb.2 e' z
      · rw [List.mem_singleton.mp z]
        exact he
  · rw [if_neg c]
    exact ⟨tp_LA_oth c hn (hl j hj).2.1 (hl j hj).1, (hl j hj).2⟩
end
section
/-! what logs say, place by place -/
def tp_apk : List tp_Ent → Nat → Nat → Int32 → Int32
  | [], _, _, x => x
  | e :: l, tr, k, x => tp_apk l tr k (if e.1 = 1 ∧ e.2.1 = tr ∧ e.2.2.1 = k then e.2.2.2 else x)
def tp_rpk (L : List tp_Ent) : List tp_Ent → Nat → Int32 → Int32
  | [], _, x => x
  | e :: l, k, x => tp_rpk L l k (if e.1 = 3 then tp_apk L e.2.1 k x else x)
def tp_hw (l : List tp_Ent) (tr k : Nat) : Bool := l.any (fun e => decide (e.1 = 1) && decide (e.2.1 = tr) && decide (e.2.2.1 = k))
theorem tp_apl_at (tr k : Nat) : ∀ (l : List tp_Ent) (b : Nat → Int32), tp_apl l tr b k = tp_apk l tr k (b k) := by
  intro l
  induction l with
  | nil => intro b; rfl
  | cons e l ih =>
    intro b
    unfold tp_apl tp_apk
    rw [ih]
    congr 1
    by_cases c : e.1 = 1 ∧ e.2.1 = tr
    · rw [if_pos c]
      by_cases c2 : e.2.2.1 = k
      · rw [if_pos ⟨c.1, c.2, c2⟩, c2, pk_us]
      · rw [if_neg (fun z => c2 z.2.2), pk_un (fun z => c2 z.symm)]
    · rw [if_neg c, if_neg (fun z => c ⟨z.1, z.2.1⟩)]
theorem tp_rpl_at (L : List tp_Ent) (k : Nat) : ∀ (l : List tp_Ent) (b : Nat → Int32), tp_rpl L l b k = tp_rpk L l k (b k) := by
  intro l
  induction l with
  | nil => intro b; rfl
  | cons e l ih =>
    intro b
    unfold tp_rpl tp_rpk
    rw [ih]
    congr 1
    by_cases c : e.1 = 3
    · rw [if_pos c, if_pos c, tp_apl_at]
    · rw [if_neg c, if_neg c]
theorem tp_apk_app (tr k : Nat) (l2 : List tp_Ent) : ∀ (l1 : List tp_Ent) (x : Int32), tp_apk (l1 ++ l2) tr k x = tp_apk l2 tr k (tp_apk l1 tr k x) := by
  intro l1
  induction l1 with
  | nil => intro x; rfl
  | cons e l ih => intro x; exact ih _
theorem tp_rpk_app (L : List tp_Ent) (k : Nat) (l2 : List tp_Ent) : ∀ (l1 : List tp_Ent) (x : Int32), tp_rpk L (l1 ++ l2) k x = tp_rpk L l2 k (tp_rpk L l1 k x) := by
  intro l1
  induction l1 with
  | nil => intro x; rfl
  | cons e l ih => intro x; exact ih _
theorem tp_opn_app (l2 : List tp_Ent) : ∀ (l1 : List tp_Ent) (o : Nat), tp_opn (l1 ++ l2) o = tp_opn l2 (tp_opn l1 o) := by
  intro l1
  induction l1 with
  | nil => intro x; rfl
  | cons e l ih => intro x; exact ih _
theorem tp_apk_no (tr k : Nat) : ∀ (l : List tp_Ent) (x : Int32), (∀ e, e ∈ l → ¬ (e.1 = 1 ∧ e.2.1 = tr ∧ e.2.2.1 = k)) → tp_apk l tr k x = x := by
  intro l
  induction l with
  | nil => intro x _; rfl
  | cons e l ih =>
    intro x h
    unfold tp_apk
    rw [if_neg (h e (List.mem_cons_self ..))]
    exact ih x (fun e' h' => h e' (List.mem_cons_of_mem _ h'))
theorem tp_rpk_no (L : List tp_Ent) (k : Nat) : ∀ (l : List tp_Ent) (x : Int32), (∀ e, e ∈ l → e.1 ≠ 3) → tp_rpk L l k x = x := by
  intro l
  induction l with
  | nil => intro x _; rfl
  | cons e l ih =>
    intro x h
    unfold tp_rpk
    rw [if_neg (h e (List.mem_cons_self ..))]
    exact ih x (fun e' h' => h e' (List.mem_cons_of_mem _ h'))
theorem tp_rpk_id (L : List tp_Ent) (k : Nat) (h : ∀ tr x, tp_apk L tr k x = x) : ∀ (l : List tp_Ent) (x : Int32), tp_rpk L l k x = x := by
  intro l
  induction l with
  | nil => intro x; rfl
  | cons e l ih =>
    intro x
    unfold tp_rpk
    by_cases c : e.1 = 3
    · rw [if_pos c, h]; exact ih x
    · rw [if_neg c]; exact ih x
theorem tp_rpk_ext (L L' : List tp_Ent) (k : Nat) : ∀ (l : List tp_Ent) (x : Int32), (∀ e, e ∈ l → ∀ y, tp_apk L e.2.1 k y = tp_apk L' e.2.1 k y) → tp_rpk L l k x = tp_rpk L' l k x := by
  intro l
  induction l with
  | nil => intro x _; rfl
  | cons e l ih =>
    intro x h
    unfold tp_rpk
    rw [h e (List.mem_cons_self ..)]
    exact ih _ (fun e' h' => h e' (List.mem_cons_of_mem _ h'))
theorem tp_hl8_at (tr sl k : Nat) : ∀ (l : List tp_Ent) (b : Nat → Int32), tp_hl8 l tr sl b k = if tp_hw l tr k = true then nI sl else b k := by
  intro l
  induction l with
  | nil => intro b; rfl
  | cons e l ih =>
    intro b
    unfold tp_hl8
    rw [ih]
    unfold tp_hw
    rw [List.any_cons]
    by_cases c : e.1 = 1 ∧ e.2.1 = tr
    · rw [if_pos c]
      by_cases c2 : e.2.2.1 = k
      · rw [c2, pk_us]
        simp [c.1, c.2, c2]
      · rw [pk_un (fun z => c2 z.symm), show decide (e.2.2.1 = k) = false from decide_eq_false c2, Bool.and_false, Bool.false_or]
    · rw [if_neg c]
      have : (decide (e.1 = 1) && decide (e.2.1 = tr)) = false := by
        simp only [Bool.and_eq_false_iff, decide_eq_false_iff_not]
        by_cases c1 : e.1 = 1
        · exact Or.inr (fun z => c ⟨c1, z⟩)
        · exact Or.inl c1
      rw [this, Bool.false_and, Bool.false_or]
theorem tp_hl9_at (tr : Nat) : ∀ (l : List tp_Ent) (w : Int32), tp_W12 w → (∀ e, e ∈ l → e.2.2.1 < 12) → tp_W12 (tp_hl9 l tr w) ∧ ∀ i, tp_bt (tp_hl9 l tr w) i = (tp_bt w i || tp_hw l tr i) := by
  intro l
  induction l with
  | nil => intro w hw _; exact ⟨hw, fun i => by simp [tp_hl9, tp_hw]⟩
  | cons e l ih =>
    intro w hw hk
    have hk0 := hk e (List.mem_cons_self ..)
    have hk1 : ∀ e', e' ∈ l → e'.2.2.1 < 12 := fun e' h' => hk e' (List.mem_cons_of_mem _ h')
    unfold tp_hl9
    by_cases c : e.1 = 1 ∧ e.2.1 = tr
    · rw [if_pos c]
      obtain ⟨h1, h2⟩ := ih (tp_se w e.2.2.1) (tp_se_W hw hk0) hk1
      refine ⟨h1, fun i => ?_⟩
      rw [h2, tp_se_bt hw hk0]
      unfold tp_hw
      rw [List.any_cons, Bool.or_assoc]
      congr 2
      by_cases c2 : e.2.2.1 = i
      · simp [c.1, c.2, c2]
      · have c3 : ¬ i = e.2.2.1 := fun z => c2 z.symm
        simp [c2, c3]
    · rw [if_neg c]
      obtain ⟨h1, h2⟩ := ih w hw hk1
      refine ⟨h1, fun i => ?_⟩
      rw [h2]
      unfold tp_hw
      have : (decide (e.1 = 1) && decide (e.2.1 = tr)) = false := by
        simp only [Bool.and_eq_false_iff, decide_eq_false_iff_not]
        by_cases c1 : e.1 = 1
        · exact Or.inr (fun z => c ⟨c1, z⟩)
        · exact Or.inl c1
      rw [List.any_cons, this, Bool.false_and, Bool.false_or]
theorem tp_h10_at (tr sl k : Nat) (hk12 : k < 12) : ∀ (l : List tp_Ent) (b : Nat → Int32), (∀ e, e ∈ l → e.2.2.1 < 12) → tp_h10 l tr sl b (sl * 12 + k) = tp_apk l tr k (b (sl * 12 + k)) := by
  intro l
  induction l with
  | nil => intro b _; rfl
  | cons e l ih =>
    intro b hk
    have hk0 := hk e (List.mem_cons_self ..)
    unfold tp_h10 tp_apk
    rw [ih _ (fun e' h' => hk e' (List.mem_cons_of_mem _ h'))]
    congr 1
    by_cases c : e.1 = 1 ∧ e.2.1 = tr
    · rw [if_pos c]
      by_cases c2 : e.2.2.1 = k
      · rw [if_pos ⟨c.1, c.2, c2⟩, c2, pk_us]
      · rw [if_neg (fun z => c2 z.2.2), pk_un (by omega)]
    · rw [if_neg c, if_neg (fun z => c ⟨z.1, z.2.1⟩)]
theorem tp_h10_oth (tr sl t k : Nat) (hk12 : k < 12) (hne : t ≠ sl) : ∀ (l : List tp_Ent) (b : Nat → Int32), (∀ e, e ∈ l → e.2.2.1 < 12) → tp_h10 l tr sl b (t * 12 + k) = b (t * 12 + k) := by
  intro l
  induction l with
  | nil => intro b _; rfl
  | cons e l ih =>
    intro b hk
    have hk0 := hk e (List.mem_cons_self ..)
    unfold tp_h10
    rw [ih _ (fun e' h' => hk e' (List.mem_cons_of_mem _ h'))]
    by_cases c : e.1 = 1 ∧ e.2.1 = tr
    · rw [if_pos c, pk_un (by omega)]
    · rw [if_neg c]
/-! the entries of the transaction that is being committed, by the phase of a machine -/
def tp_w1 (N : Nat) (w : Int32) (v : Nat → Int32) (sl k : Nat) : List tp_Ent := if tp_bt w k = true then [(1, N, k, v (sl * 12 + k))] else []
def tp_ws (N : Nat) (w : Int32) (v : Nat → Int32) (sl m : Nat) : List tp_Ent := tp_w1 N w v sl m ++ tp_w1 N w v sl (m + 3) ++ tp_w1 N w v sl (m + 6) ++ tp_w1 N w v sl (m + 9)
def tp_pr (N : Nat) (w : Int32) (v : Nat → Int32) (sl m : Nat) : List tp_Ent := tp_ws N w v sl m ++ [(2, N, 0, 0)]
def tp_cu (N : Nat) (w : Int32) (v : Nat → Int32) (sl m p : Nat) : List tp_Ent := if p = 1 ∨ p = 6 then tp_pr N w v sl m else if p = 2 then tp_pr N w v sl m ++ [(3, N, 0, 0)] else if p = 3 then tp_pr N w v sl m ++ [(4, N, 0, 0)] else []
theorem tp_w1_mem {N : Nat} {w : Int32} {v : Nat → Int32} {sl k : Nat} {e : tp_Ent} (h : e ∈ tp_w1 N w v sl k) : e = (1, N, k, v (sl * 12 + k)) ∧ tp_bt w k = true := by
  unfold tp_w1 at h
  by_cases c : tp_bt w k = true
  · rw [if_pos c] at h
    exact ⟨List.mem_singleton.mp h, c⟩
  · rw [if_neg c] at h
    exact absurd h List.not_mem_nil
theorem tp_w1_len (N : Nat) (w : Int32) (v : Nat → Int32) (sl k : Nat) : (tp_w1 N w v sl k).length ≤ 1 := by
  unfold tp_w1
  split <;> simp
theorem tp_ws_mem {N : Nat} {w : Int32} {v : Nat → Int32} {sl m : Nat} {e : tp_Ent} (h : e ∈ tp_ws N w v sl m) : ∃ k, (k = m ∨ k = m + 3 ∨ k = m + 6 ∨ k = m + 9) ∧ e = (1, N, k, v (sl * 12 + k)) ∧ tp_bt w k = true := by
  unfold tp_ws at h
  simp only [List.mem_append] at h
  rcases h with ((h | h) | h) | h
  · exact ⟨m, Or.inl rfl, tp_w1_mem h⟩
  · exact ⟨m + 3, Or.inr (Or.inl rfl), tp_w1_mem h⟩
  · exact ⟨m + 6, Or.inr (Or.inr (Or.inl rfl)), tp_w1_mem h⟩
  · exact ⟨m + 9, Or.inr (Or.inr (Or.inr rfl)), tp_w1_mem h⟩
theorem tp_cu_mem {N : Nat} {w : Int32} {v : Nat → Int32} {sl m p : Nat} {e : tp_Ent} (hm : m < 3) (h : e ∈ tp_cu N w v sl m p) : e.1 < 16 ∧ 1 ≤ e.1 ∧ e.2.1 = N ∧ e.2.2.1 < 12 ∧ (e.1 = 1 → e.2.2.1 % 3 = m) := by
  have hp : ∀ e, e ∈ tp_pr N w v sl m → e.1 < 16 ∧ 1 ≤ e.1 ∧ e.2.1 = N ∧ e.2.2.1 < 12 ∧ (e.1 = 1 → e.2.2.1 % 3 = m) := by
    intro e h
    rcases List.mem_append.mp h with z | z
    · obtain ⟨k, hk, rfl, _⟩ := tp_ws_mem z
      refine ⟨by show 1 < 16; omega, by show 1 ≤ 1; omega, rfl, by show k < 12; omega, fun _ => by show k % 3 = m; omega⟩
    · rw [List.mem_singleton.mp z]
      refine ⟨by show 2 < 16; omega, by show 1 ≤ 2; omega, rfl, by show 0 < 12; omega, fun q => absurd q (by show ¬ 2 = 1; omega)⟩
  unfold tp_cu at h
  by_cases c1 : p = 1 ∨ p = 6
  · rw [if_pos c1] at h; exact hp e h
  · rw [if_neg c1] at h
    by_cases c2 : p = 2
    · rw [if_pos c2] at h
      rcases List.mem_append.mp h with z | z
      · exact hp e z
      · rw [List.mem_singleton.mp z]
        refine ⟨by show 3 < 16; omega, by show 1 ≤ 3; omega, rfl, by show 0 < 12; omega, fun q => absurd q (by show ¬ 3 = 1; omega)⟩
    · rw [if_neg c2] at h
      by_cases c3 : p = 3
      · rw [if_pos c3] at h
        rcases List.mem_append.mp h with z | z
        · exact hp e z
        · rw [List.mem_singleton.mp z]
          refine ⟨by show 4 < 16; omega, by show 1 ≤ 4; omega, rfl, by show 0 < 12; omega, fun q => absurd q (by show ¬ 4 = 1; omega)⟩
      · rw [if_neg c3] at h
        exact absurd h List.not_mem_nil
theorem tp_pr_len (N : Nat) (w : Int32) (v : Nat → Int32) (sl m : Nat) : (tp_pr N w v sl m).length ≤ 5 := by
  have h1 := tp_w1_len N w v sl m
  have h2 := tp_w1_len N w v sl (m + 3)
  have h3 := tp_w1_len N w v sl (m + 6)
  have h4 := tp_w1_len N w v sl (m + 9)
  unfold tp_pr tp_ws
  simp only [List.length_append, List.length_cons, List.length_nil]
  omega
theorem tp_cu_len (N : Nat) (w : Int32) (v : Nat → Int32) (sl m p : Nat) : (tp_cu N w v sl m p).length ≤ 6 := by
  have h := tp_pr_len N w v sl m
  unfold tp_cu
  split
  · omega
  · split
    · simp only [List.length_append, List.length_cons, List.length_nil]; omega
    · split
      · simp only [List.length_append, List.length_cons, List.length_nil]; omega
      · simp
theorem tp_w1_apk (N : Nat) (w : Int32) (v : Nat → Int32) (sl j k : Nat) (x : Int32) : tp_apk (tp_w1 N w v sl j) N k x = if j = k ∧ tp_bt w k = true then v (sl * 12 + k) else x := by
  unfold tp_w1
  by_cases e : j = k
  · subst e
    by_cases c : tp_bt w j = true
    · rw [if_pos c, if_pos ⟨rfl, c⟩]
      show (if 1 = 1 ∧ N = N ∧ j = j then v (sl * 12 + j) else x) = _
      rw [if_pos ⟨rfl, rfl, rfl⟩]
    · rw [if_neg c, if_neg (fun z => c z.2)]
      rfl
  · rw [if_neg (show ¬ (j = k ∧ tp_bt w k = true) from fun z => e z.1)]
    by_cases c : tp_bt w j = true
    · rw [if_pos c]
      show (if 1 = 1 ∧ N = N ∧ j = k then v (sl * 12 + j) else x) = _
      rw [if_neg (fun z => e z.2.2)]
    · rw [if_neg c]
      rfl
theorem tp_ws_apk (N : Nat) (w : Int32) (v : Nat → Int32) (sl : Nat) {m k : Nat} (hm : m < 3) (hk : k < 12) (x : Int32) : tp_apk (tp_ws N w v sl m) N k x = if k % 3 = m ∧ tp_bt w k = true then v (sl * 12 + k) else x := by
  unfold tp_ws
  rw [tp_apk_app, tp_apk_app, tp_apk_app, tp_w1_apk, tp_w1_apk, tp_w1_apk, tp_w1_apk]
  by_cases c : tp_bt w k = true
  · by_cases e : k % 3 = m
    · have : k = m ∨ k = m + 3 ∨ k = m + 6 ∨ k = m + 9 := by omega
      rw [if_pos (show k % 3 = m ∧ tp_bt w k = true from ⟨e, c⟩)]
      rcases this with h | h | h | h
      · rw [if_neg (by omega), if_neg (by omega), if_neg (by omega), if_pos ⟨h.symm, c⟩]
      · rw [if_neg (by omega), if_neg (by omega), if_pos ⟨h.symm, c⟩]
      · rw [if_neg (by omega), if_pos ⟨h.symm, c⟩]
      · rw [if_pos ⟨h.symm, c⟩]
    · rw [if_neg (by omega), if_neg (by omega), if_neg (by omega), if_neg (by omega), if_neg (fun z => e z.1)]
  · simp [c]
theorem tp_pr_apk (N : Nat) (w : Int32) (v : Nat → Int32) (sl : Nat) {m k : Nat} (hm : m < 3) (hk : k < 12) (x : Int32) : tp_apk (tp_pr N w v sl m) N k x = if k % 3 = m ∧ tp_bt w k = true then v (sl * 12 + k) else x := by
  unfold tp_pr
  rw [tp_apk_app, tp_ws_apk N w v sl hm hk]
  rfl
theorem tp_w1_hw (N : Nat) (w : Int32) (v : Nat → Int32) (sl j k : Nat) : tp_hw (tp_w1 N w v sl j) N k = (decide (j = k) && tp_bt w k) := by
  unfold tp_w1
  by_cases e : j = k
  · subst e
    cases c : tp_bt w j
    · simp [tp_hw]
    · simp [tp_hw]
  · by_cases c : tp_bt w j = true
    · rw [if_pos c]; simp [tp_hw, e]
    · rw [if_neg c]; simp [tp_hw, e]
theorem tp_hw_app (l1 l2 : List tp_Ent) (tr k : Nat) : tp_hw (l1 ++ l2) tr k = (tp_hw l1 tr k || tp_hw l2 tr k) := by
  unfold tp_hw
  rw [List.any_append]
theorem tp_pr_hw (N : Nat) (w : Int32) (v : Nat → Int32) (sl : Nat) {m k : Nat} (hm : m < 3) (hk : k < 12) : tp_hw (tp_pr N w v sl m) N k = (decide (k % 3 = m) && tp_bt w k) := by
  unfold tp_pr tp_ws
  rw [tp_hw_app, tp_hw_app, tp_hw_app, tp_hw_app, tp_w1_hw, tp_w1_hw, tp_w1_hw, tp_w1_hw]
  have h0 : tp_hw [(2, N, 0, 0)] N k = false := rfl
  rw [h0]
  by_cases e : k % 3 = m
  · have : m = k ∨ m + 3 = k ∨ m + 6 = k ∨ m + 9 = k := by omega
    rcases this with h | h | h | h
    · have h1 : ¬ m + 3 = k := by omega
      have h2 : ¬ m + 6 = k := by omega
      have h3 : ¬ m + 9 = k := by omega
      simp [e, h, h1, h2, h3]
    · have h1 : ¬ m = k := by omega
      have h2 : ¬ m + 6 = k := by omega
      have h3 : ¬ m + 9 = k := by omega
      simp [e, h, h1, h2, h3]
    · have h1 : ¬ m = k := by omega
      have h2 : ¬ m + 3 = k := by omega
      have h3 : ¬ m + 9 = k := by omega
      simp [e, h, h1, h2, h3]
    · have h1 : ¬ m = k := by omega
      have h2 : ¬ m + 3 = k := by omega
      have h3 : ¬ m + 6 = k := by omega
      simp [e, h, h1, h2, h3]
  · have h0 : ¬ m = k := by omega
    have h1 : ¬ m + 3 = k := by omega
    have h2 : ¬ m + 6 = k := by omega
    have h3 : ¬ m + 9 = k := by omega
    simp [e, h0, h1, h2, h3]
/-! replay with the entries of the current transaction behind old ones -/
theorem tp_old_apk {L0 : List tp_Ent} {N : Nat} (h0 : ∀ e, e ∈ L0 → e.2.1 < N) (k : Nat) (x : Int32) : tp_apk L0 N k x = x :=
  tp_apk_no N k L0 x (fun e he z => by have := h0 e he; omega)
theorem tp_rp_split {L0 C : List tp_Ent} {N : Nat} (h0 : ∀ e, e ∈ L0 → e.2.1 < N) (hC : ∀ e, e ∈ C → e.2.1 = N) (k : Nat) (x : Int32) : tp_rpk (L0 ++ C) (L0 ++ C) k x = tp_rpk (L0 ++ C) C k (tp_rpk L0 L0 k x) := by
  rw [tp_rpk_app]
  congr 1
  refine tp_rpk_ext _ _ k L0 x (fun e he y => ?_)
  rw [tp_apk_app]
  have := h0 e he
  exact tp_apk_no _ k C _ (fun e' he' z => by have := hC e' he'; omega)
theorem tp_pr_rpk (L : List tp_Ent) (N : Nat) (w : Int32) (v : Nat → Int32) (sl : Nat) {m k : Nat} (hm : m < 3) (x : Int32) : tp_rpk L (tp_pr N w v sl m) k x = x := by
  refine tp_rpk_no L k _ x (fun e he => ?_)
  rcases List.mem_append.mp he with z | z
  · obtain ⟨j, _, rfl, _⟩ := tp_ws_mem z
    show 1 ≠ 3
    omega
  · rw [List.mem_singleton.mp z]
    show 2 ≠ 3
    omega
theorem tp_opn_w : ∀ (l : List tp_Ent) (o : Nat), (∀ e, e ∈ l → e.1 = 1) → tp_opn l o = o := by
  intro l
  induction l with
  | nil => intro o _; rfl
  | cons e l ih =>
    intro o h
    have h1 := h e (List.mem_cons_self ..)
    unfold tp_opn
    rw [if_neg (by omega), if_neg (by omega)]
    exact ih o (fun e' h' => h e' (List.mem_cons_of_mem _ h'))
theorem tp_pr_opn (N : Nat) (w : Int32) (v : Nat → Int32) (sl : Nat) (m o : Nat) : tp_opn (tp_pr N w v sl m) o = N := by
  unfold tp_pr
  rw [tp_opn_app]
  rfl
/-- numbers and doubt after the log of a machine in phase p is gone through -/
theorem tp_rep {L0 : List tp_Ent} {N : Nat} {w : Int32} {v : Nat → Int32} {sl m k p : Nat} {x y : Int32} (hm : m < 3) (hk : k < 12) (hkm : k % 3 = m) (h0 : ∀ e, e ∈ L0 → e.2.1 < N) (hr : tp_rpk L0 L0 k x = y) :
    tp_rpk (L0 ++ tp_cu N w v sl m p) (L0 ++ tp_cu N w v sl m p) k x = if p = 2 ∧ tp_bt w k = true then v (sl * 12 + k) else y := by
  rw [tp_rp_split h0 (fun e he => (tp_cu_mem hm he).2.2.1), hr]
  generalize hL : L0 ++ tp_cu N w v sl m p = L
  unfold tp_cu
  by_cases c1 : p = 1 ∨ p = 6
  · rw [if_pos c1, tp_pr_rpk L N w v sl hm, if_neg (by omega)]
  · rw [if_neg c1]
    by_cases c2 : p = 2
    · rw [if_pos c2, tp_rpk_app, tp_pr_rpk L N w v sl hm]
      show tp_apk L N k y = _
      rw [← hL]
      unfold tp_cu
      rw [if_neg c1, if_pos c2, tp_apk_app, tp_old_apk h0, tp_apk_app, tp_pr_apk N w v sl hm hk]
      show (if k % 3 = m ∧ tp_bt w k = true then v (sl * 12 + k) else y) = _
      by_cases c : tp_bt w k = true
      · rw [if_pos ⟨hkm, c⟩, if_pos ⟨c2, c⟩]
      · rw [if_neg (fun z => c z.2), if_neg (fun z => c z.2)]
    · rw [if_neg c2, if_neg (show ¬ (p = 2 ∧ tp_bt w k = true) from fun z => c2 z.1)]
      by_cases c3 : p = 3
      · rw [if_pos c3, tp_rpk_app, tp_pr_rpk L N w v sl hm]
        rfl
      · rw [if_neg c3]
        rfl
theorem tp_rep_opn {L0 : List tp_Ent} {N : Nat} {w : Int32} {v : Nat → Int32} {sl m p : Nat} (h0 : tp_opn L0 0 = 0) :
    tp_opn (L0 ++ tp_cu N w v sl m p) 0 = if p = 1 ∨ p = 6 then N else 0 := by
  rw [tp_opn_app, h0]
  unfold tp_cu
  by_cases c1 : p = 1 ∨ p = 6
  · rw [if_pos c1, if_pos c1, tp_pr_opn]
  · rw [if_neg c1, if_neg c1]
    by_cases c2 : p = 2
    · rw [if_pos c2, tp_opn_app]
      rfl
    · rw [if_neg c2]
      by_cases c3 : p = 3
      · rw [if_pos c3, tp_opn_app]
        rfl
      · rw [if_neg c3]
        rfl
end
section
/-! breakDown, breakLeader: transactions of a set h are rolled back, that of the commit (sf) only released on m -/
def tp_bdk (a8 : Nat → Int32) (sf h : Nat → Bool) (m t k : Nat) : Bool := decide ((a8 k).toNatClampNeg < t) && h (a8 k).toNatClampNeg && (!sf (a8 k).toNatClampNeg || decide (k % 3 = m))
def tp_BI (f sf h : Nat → Bool) (a8 a9 a11 a12 : Nat → Int32) (m t : Nat) (x n : Int32) (b8 b9 b11 b12 : Nat → Int32) : Prop :=
  x = nI (tp_of (fun s => f s && !(decide (s < t) && h s && !sf s))) ∧
  (∀ k, k < 12 → b8 k = if tp_bdk a8 sf h m t k = true then -1 else a8 k) ∧
  (∀ s, s < 4 → b9 s = if s < t ∧ h s = true then (if sf s = true then tp_c4 (a9 s) m else 0) else a9 s) ∧
  (∀ s j, s < 4 → j < 3 → b11 (s * 3 + j) = if s < t ∧ h s = true ∧ (sf s = true → j = m) then 0 else a11 (s * 3 + j)) ∧
  (∀ s j, s < 4 → j < 3 → b12 (s * 3 + j) = if s < t ∧ h s = true ∧ sf s = true ∧ j = m then 1 else a12 (s * 3 + j)) ∧
  ((∀ s, s < t → h s = false) → n = 0)
theorem tp_cm1 : (-1 : Int32).toNatClampNeg = 0 := by decide
theorem tp_BI_0 {f sf h : Nat → Bool} {a8 a9 a11 a12 : Nat → Int32} {m : Nat} : tp_BI f sf h a8 a9 a11 a12 m 0 (nI (tp_of f)) 0 a8 a9 a11 a12 := by
  refine ⟨?_, ?_, ?_, ?_, ?_, fun _ => rfl⟩
  · rw [tp_of_cg (fun s _ => ?_)]
    simp
  · intro k _
    simp [tp_bdk]
  · intro s _
    rw [if_neg (fun z => absurd z.1 (by omega))]
  · intro s j _ _
    rw [if_neg (fun z => absurd z.1 (by omega))]
  · intro s j _ _
    rw [if_neg (fun z => absurd z.1 (by omega))]
theorem tp_BI_V {f sf h : Nat → Bool} {a8 a9 a11 a12 : Nat → Int32} {m t : Nat} {x n : Int32} {b8 b9 b11 b12 : Nat → Int32} (hv : tp_V8 a8) (I : tp_BI f sf h a8 a9 a11 a12 m t x n b8 b9 b11 b12) : tp_V8 b8 := by
  intro k hk
  rw [I.2.1 k hk]
  by_cases c : tp_bdk a8 sf h m t k = true
  · rw [if_pos c]; exact Or.inl rfl
  · rw [if_neg c]; exact hv k hk
theorem tp_BI_9 {f sf h : Nat → Bool} {a8 a9 a11 a12 : Nat → Int32} {m t : Nat} {x n : Int32} {b8 b9 b11 b12 : Nat → Int32} (ht : t < 4) (I : tp_BI f sf h a8 a9 a11 a12 m t x n b8 b9 b11 b12) : b9 t = a9 t := by
  rw [I.2.2.1 t ht, if_neg (fun z => absurd z.1 (by omega))]
theorem tp_BI_skip {f sf h : Nat → Bool} {a8 a9 a11 a12 : Nat → Int32} {m t : Nat} {x n : Int32} {b8 b9 b11 b12 : Nat → Int32} (hh : h t = false) (I : tp_BI f sf h a8 a9 a11 a12 m t x n b8 b9 b11 b12) :
    tp_BI f sf h a8 a9 a11 a12 m (t + 1) x n b8 b9 b11 b12 := by
  obtain ⟨h0, h8, h9, h11, h12, hn⟩ := I
  have key : ∀ s, h s = true → (s < t + 1 ↔ s < t) := by
    intro s hs
    constructor
    · intro z
      rcases Nat.lt_or_ge s t with q | q
      · exact q
      · have : s = t := by omega
        rw [this, hh] at hs
        exact absurd hs (by simp)
    · intro z; omega
  refine ⟨?_, ?_, ?_, ?_, ?_, fun z => hn (fun s hs => z s (by omega))⟩
  · rw [h0, tp_of_cg (fun s _ => ?_)]
    cases c : h s
    · simp
    · have := key s c
      simp [this]
  · intro k hk
    rw [h8 k hk]
    have : tp_bdk a8 sf h m (t + 1) k = tp_bdk a8 sf h m t k := by
      unfold tp_bdk
      cases c : h (a8 k).toNatClampNeg
      · simp
      · have := key _ c
        simp [this]
    rw [this]
  · intro s hs
    rw [h9 s hs]
    cases c : h s
    · simp
    · have := key s c
      simp [this]
  · intro s j hs hj
    rw [h11 s j hs hj]
    cases c : h s
    · simp
    · have := key s c
      simp [this]
  · intro s j hs hj
    rw [h12 s j hs hj]
    cases c : h s
    · simp
    · have := key s c
      simp [this]
theorem tp_BI_roll {f sf h : Nat → Bool} {a8 a9 a11 a12 : Nat → Int32} {m t : Nat} {x n n' : Int32} {b8 b9 b11 b12 : Nat → Int32} (hv : tp_V8 a8) (ht : t < 4) (hh : h t = true) (hs : sf t = false) (I : tp_BI f sf h a8 a9 a11 a12 m t x n b8 b9 b11 b12) :
    tp_BI f sf h a8 a9 a11 a12 m (t + 1) (nI (tp_of (tp_ub (fun s => f s && !(decide (s < t) && h s && !sf s)) t false))) n' (tp_b8 b8 t) (upd b9 t 0) (tp_z3 b11 t) b12 := by
  obtain ⟨h0, h8, h9, h11, h12, hn⟩ := I
  have lt' : ∀ s, s ≠ t → (s < t + 1 ↔ s < t) := fun s z => by omega
  refine ⟨?_, ?_, ?_, ?_, ?_, fun z => absurd (z t (by omega)) (by rw [hh]; simp)⟩
  · rw [tp_of_cg (fun s _ => ?_)]
    unfold tp_ub
    by_cases e : s = t
    · subst e; simp [hh, hs]
    · simp [e, lt' s e]
  · intro k hk
    have e8 := h8 k hk
    show (if k < 12 ∧ b8 k = nI t then -1 else b8 k) = _
    rcases hv k hk with e | ⟨s, hs4, e⟩
    · have hb : b8 k = -1 := by rw [e8, e]; split <;> rfl
      have hne : ¬ (-1 : Int32) = nI t := fun z => tp_m1 (show t < 16 by omega) z.symm
      rw [hb, if_neg (fun z => hne z.2), e]
      split <;> rfl
    · have hc : (a8 k).toNatClampNeg = s := by rw [e]; exact nI_clamp (by omega)
      by_cases est : s = t
      · subst est
        have hb : b8 k = nI s := by
          rw [e8, if_neg, e]
          unfold tp_bdk
          rw [hc]
          simp
        rw [if_pos ⟨hk, hb⟩, if_pos]
        unfold tp_bdk
        rw [hc, hh, hs]
        simp
      · have hne : ¬ nI s = nI t := fun z => est (tp_ni (by omega) (by omega) z)
        have hnm : ¬ (-1 : Int32) = nI t := fun z => tp_m1 (show t < 16 by omega) z.symm
        have heq : tp_bdk a8 sf h m (t + 1) k = tp_bdk a8 sf h m t k := by
          unfold tp_bdk
          rw [hc]
          simp [lt' s est]
        rw [heq, if_neg]
        · exact e8
        · rintro ⟨_, z⟩
          rw [e8] at z
          by_cases c : tp_bdk a8 sf h m t k = true
          · rw [if_pos c] at z; exact hnm z
          · rw [if_neg c, e] at z; exact hne z
  · intro s hs4
    by_cases e : s = t
    · subst e
      rw [pk_us, if_pos ⟨by omega, hh⟩, if_neg (by rw [hs]; simp)]
    · rw [pk_un e, h9 s hs4]
      simp [lt' s e]
  · intro s j hs4 hj
    show (if (s * 3 + j) / 3 = t then 0 else b11 (s * 3 + j)) = _
    have hd : (s * 3 + j) / 3 = s := by omega
    rw [hd]
    by_cases e : s = t
    · subst e
      rw [if_pos rfl, if_pos ⟨by omega, hh, fun z => absurd z (by rw [hs]; simp)⟩]
    · rw [if_neg e, h11 s j hs4 hj]
      simp [lt' s e]
  · intro s j hs4 hj
    rw [h12 s j hs4 hj]
    by_cases e : s = t
    · subst e; simp [hs]
    · simp [lt' s e]
theorem tp_BI_slot {f sf h : Nat → Bool} {a8 a9 a11 a12 : Nat → Int32} {m t : Nat} {x n : Int32} {b8 b9 b11 b12 : Nat → Int32} (hv : tp_V8 a8) (ht : t < 4) (hm : m < 3) (hh : h t = true) (hs : sf t = true) (I : tp_BI f sf h a8 a9 a11 a12 m t x n b8 b9 b11 b12) :
    tp_BI f sf h a8 a9 a11 a12 m (t + 1) x n (tp_r8 b8 t m) (upd b9 t (tp_c4 (b9 t) m)) (upd b11 (t * 3 + m) 0) (upd b12 (t * 3 + m) 1) := by
  have h9t := tp_BI_9 ht I
  obtain ⟨h0, h8, h9, h11, h12, hn⟩ := I
  have lt' : ∀ s, s ≠ t → (s < t + 1 ↔ s < t) := fun s z => by omega
  refine ⟨?_, ?_, ?_, ?_, ?_, fun z => absurd (z t (by omega)) (by rw [hh]; simp)⟩
  · rw [h0, tp_of_cg (fun s _ => ?_)]
    by_cases e : s = t
    · subst e; simp [hs]
    · simp [lt' s e]
  · intro k hk
    have e8 := h8 k hk
    show (if k < 12 ∧ k % 3 = m ∧ b8 k = nI t then -1 else b8 k) = _
    rcases hv k hk with e | ⟨s, hs4, e⟩
    · have hb : b8 k = -1 := by rw [e8, e]; split <;> rfl
      have hne : ¬ (-1 : Int32) = nI t := fun z => tp_m1 (show t < 16 by omega) z.symm
      rw [hb, if_neg (fun z => hne z.2.2), e]
      split <;> rfl
    · have hc : (a8 k).toNatClampNeg = s := by rw [e]; exact nI_clamp (by omega)
      by_cases est : s = t
      · subst est
        have hb : b8 k = nI s := by
          rw [e8, if_neg, e]
          unfold tp_bdk
          rw [hc]
          simp
        by_cases ckm : k % 3 = m
        · rw [if_pos ⟨hk, ckm, hb⟩, if_pos]
          unfold tp_bdk
          rw [hc, hh, hs]
          simp [ckm]
        · rw [if_neg (fun z => ckm z.2.1), hb, if_neg, e]
          unfold tp_bdk
          rw [hc, hh, hs]
          simp [ckm]
      · have hne : ¬ nI s = nI t := fun z => est (tp_ni (by omega) (by omega) z)
        have hnm : ¬ (-1 : Int32) = nI t := fun z => tp_m1 (show t < 16 by omega) z.symm
        have heq : tp_bdk a8 sf h m (t + 1) k = tp_bdk a8 sf h m t k := by
          unfold tp_bdk
          rw [hc]
          simp [lt' s est]
        rw [heq, if_neg]
        · exact e8
        · rintro ⟨_, _, z⟩
          rw [e8] at z
          by_cases c : tp_bdk a8 sf h m t k = true
          · rw [if_pos c] at z; exact hnm z
          · rw [if_neg c, e] at z; exact hne z
  · intro s hs4
    by_cases e : s = t
    · subst e
      rw [pk_us, h9t, if_pos ⟨by omega, hh⟩, if_pos hs]
    · rw [pk_un e, h9 s hs4]
      simp [lt' s e]
  · intro s j hs4 hj
    by_cases e : s * 3 + j = t * 3 + m
    · have e1 : s = t := by omega
      have e2 : j = m := by omega
      rw [e, pk_us, if_pos ⟨by omega, by rw [e1]; exact hh, fun _ => e2⟩]
    · rw [pk_un e, h11 s j hs4 hj]
      by_cases e1 : s = t
      · have e2 : ¬ j = m := by omega
        rw [if_neg (fun z => e2 (z.2.2 (by rw [e1]; exact hs))), if_neg (fun z => e2 (z.2.2 (by rw [e1]; exact hs)))]
      · simp [lt' s e1]
  · intro s j hs4 hj
    by_cases e : s * 3 + j = t * 3 + m
    · have e1 : s = t := by omega
      have e2 : j = m := by omega
      rw [e, pk_us, if_pos ⟨by omega, by rw [e1]; exact hh, by rw [e1]; exact hs, e2⟩]
    · rw [pk_un e, h12 s j hs4 hj]
      by_cases e1 : s = t
      · have e2 : ¬ j = m := by omega
        rw [if_neg (fun z => e2 z.2.2.2), if_neg (fun z => e2 z.2.2.2)]
      · simp [lt' s e1]
theorem tp_b8r8 (a : Nat → Int32) (t m : Nat) : tp_b8 (tp_r8 a t m) t = tp_b8 a t := by
  funext k
  unfold tp_b8 tp_r8
  by_cases c : k < 12 ∧ k % 3 = m ∧ a k = nI t
  · rw [if_pos c, if_pos (show k < 12 ∧ a k = nI t from ⟨c.1, c.2.2⟩)]
    split <;> rfl
  · rw [if_neg c]
theorem tp_z3u (a : Nat → Int32) (t : Nat) {m : Nat} (hm : m < 3) : tp_z3 (upd a (t * 3 + m) 0) t = tp_z3 a t := by
  funext i
  unfold tp_z3 upd
  by_cases c : i / 3 = t
  · rw [if_pos c, if_pos c]
  · rw [if_neg c, if_neg c, if_neg (by omega)]
theorem tp_breakDown {post : Int32 → St1 → Prop} {xop xst xvo xhe xns xnm xsl xpa xtr xtd xhp xcc xfi xwa xse xlo : Int32} {a1 a2 a3 a4 a5 a6 a7 a8 a9 a10 a11 a12 a13 a14 a15 a16 : Nat → Int32} {m sl : Nat} {f sf : Nat → Bool} {l : List tp_Ent} (hv : tp_V8 a8) (hw : ∀ s, s < 4 → tp_W12 (a9 s)) (ho : xop = nI (tp_of f)) (hm : m < 3)
    (hsf : ∀ s, s < 4 → (sf s = true ↔ (¬ xst = 0 ∧ nI s = xsl))) (hl : tp_LA m l a2 a3 a4 a5 a6) (hb : tp_LB l) (hs : tp_opn l 0 ≠ 0 → sl < 4 ∧ xsl = nI sl)
    (H0 : tp_opn l 0 = 0 → ∀ n x b8 b9 b11 b12, tp_BI f sf (tp_hit a8 m) a8 a9 a11 a12 m 4 x n b8 b9 b11 b12 → post n (x, xst, xvo, xhe, xns, xnm, xsl, xpa, xtr, xtd, xhp, xcc, xfi, xwa, xse, xlo, a1, a2, a3, a4, a5, a6, tp_rpl l l (tp_i7 a1 a7 m), b8, b9, a10, b11, b12, a13, a14, a15, a16))
    (H1 : tp_opn l 0 ≠ 0 → ∀ n x b8 b9 b11 b12, tp_BI f sf (tp_hit a8 m) a8 a9 a11 a12 m 4 x n b8 b9 b11 b12 → post n (x, xst, xvo, xhe, xns, xnm, nI sl, xpa, xtr, xtd, xhp, xcc, xfi, xwa, xse, xlo, a1, a2, a3, a4, a5, a6, tp_rpl l l (tp_i7 a1 a7 m), tp_hl8 l (tp_opn l 0) sl b8, upd b9 sl (tp_hl9 l (tp_opn l 0) (b9 sl)), tp_h10 l (tp_opn l 0) sl a10, upd b11 (sl * 3 + m) (nI (tp_opn l 0)), b12, a13, a14, a15, a16)) :
    wpX_breakDown post (xop, xst, xvo, xhe, xns, xnm, xsl, xpa, xtr, xtd, xhp, xcc, xfi, xwa, xse, xlo, a1, a2, a3, a4, a5, a6, a7, a8, a9, a10, a11, a12, a13, a14, a15, a16) (nI m) := by
  refine tp_holdersOn hv hm ?_
  refine pk_loop (σ := Int32 × Int32 × (Nat → Int32) × (Nat → Int32) × (Nat → Int32) × (Nat → Int32))
    (fun n' t s => wX_breakDown_11 post (nI m) (nI (tp_of (tp_hit a8 m))) n' s.1 (nI t) s.2.1 xst xvo xhe xns xnm xsl xpa xtr xtd xhp xcc xfi xwa xse xlo a1 a2 a3 a4 a5 a6 a7 s.2.2.1 s.2.2.2.1 a10 s.2.2.2.2.1 s.2.2.2.2.2 a13 a14 a15 a16)
    (fun t s => tp_BI f sf (tp_hit a8 m) a8 a9 a11 a12 m t s.2.1 s.1 s.2.2.1 s.2.2.2.1 s.2.2.2.2.1 s.2.2.2.2.2) 4 0 (0, xop, a8, a9, a11, a12) (by omega) (by rw [ho]; exact tp_BI_0) ?_ ?_
  · rintro n' ⟨n, x, b8, b9, b11, b12⟩ I
    refine pk_le 4 4 (fun _ => ?_) (fun z => absurd z (by omega))
    exact tp_comeBack hm hl hb hs (fun z => H0 z n x b8 b9 b11 b12 I) (fun z => H1 z n x b8 b9 b11 b12 I)
  · rintro n' t ⟨n, x, b8, b9, b11, b12⟩ ht I hk
    dsimp only at I hk ⊢
    refine pk_le 4 t (fun z => absurd z (by omega)) (fun _ => ?_)
    have hv' : tp_V8 b8 := tp_BI_V hv I
    have h9t : b9 t = a9 t := tp_BI_9 ht I
    have ht' := tp_of_tst (tp_hit a8 m) t ht
    cases hh : tp_hit a8 m t
    · refine br_t (ht'.mpr hh) (nm_r (nI_1 t) ?_)
      exact hk (n, x, b8, b9, b11, b12) (tp_BI_skip hh I)
    · refine br_f (fun z => absurd (ht'.mp z) (by rw [hh]; simp)) ?_
      refine tp_releaseOn hv' ht hm ?_
      have roll : sf t = false → wX_breakDown_64 post (wX_breakDown_11 post (nI m) (nI (tp_of (tp_hit a8 m))) n') (nI m) (nI (tp_of (tp_hit a8 m))) n (nI t) x xst xvo xhe xns xnm xsl xpa xtr xtd xhp xcc xfi xwa xse xlo a1 a2 a3 a4 a5 a6 a7 (tp_r8 b8 t m) (upd b9 t (tp_c4 (b9 t) m)) a10 (upd b11 (t * 3 + m) 0) b12 a13 a14 a15 a16 := by
        intro hsft
        unfold wX_breakDown_64
        refine tp_rollBack (f := fun s => f s && !(decide (s < t) && tp_hit a8 m s && !sf s)) (tp_r8_V hv') ht (by rw [pk_us, h9t]; exact tp_c4_W (hw t ht) hm) I.1 ?_
        refine nm_e (nm_r (nI_1 t) ?_)
        rw [tp_b8r8, tp_z3u _ _ hm, tp_uu]
        exact hk (n + 1, _, _, _, _, _) (tp_BI_roll hv ht hh hsft I)
      have hsft := hsf t ht
      refine br_c (fun z0 => roll ?_) (fun z0 => ?_)
      · cases c : sf t
        · rfl
        · exact absurd z0 (hsft.mp c).1
      · refine br_c (fun z1 => ?_) (fun z1 => roll ?_)
        · refine ⟨pk_in (t * 3 + m) 12 (by omega) tp_ix3, nm_r (e' := upd b12 (t * 3 + m) 1) (by rw [tp_ix3, nI_clamp (show t * 3 + m < 2 ^ 31 by omega)]) (nm_r (nI_1 t) ?_)⟩
          exact hk (n, x, _, _, _, _) (tp_BI_slot hv ht hm hh (hsft.mpr ⟨z0, z1⟩) I)
        · cases c : sf t
          · rfl
          · exact absurd (hsft.mp c).2 z1
theorem tp_breakLeader {post : Int32 → St1 → Prop} {xop xst xvo xhe xns xnm xsl xpa xtr xtd xhp xcc xfi xwa xse xlo : Int32} {a1 a2 a3 a4 a5 a6 a7 a8 a9 a10 a11 a12 a13 a14 a15 a16 : Nat → Int32} {N : Nat} {f sf : Nat → Bool} {l : List tp_Ent} (hv : tp_V8 a8) (hw : ∀ s, s < 4 → tp_W12 (a9 s)) (ho : xop = nI (tp_of f))
    (hsf : ∀ s, s < 4 → (sf s = true ↔ (¬ xst = 0 ∧ nI s = xsl))) (hl : tp_LA 3 l a2 a3 a4 a5 a6) (hb : tp_LB l) (hN : ¬ xst = 0 → xnm = nI N ∧ N < 1048576)
    (H0 : xst = 0 → ∀ n x b8 b9 b11, tp_BI f sf (fun s => f s && !sf s) a8 a9 a11 a12 0 4 x n b8 b9 b11 a12 → post n (x, xst, xvo, xhe, xns, xnm, xsl, xpa, xtr, xtd, xhp, xcc, xfi, xwa, xse, xlo, a1, a2, a3, a4, a5, a6, a7, b8, b9, a10, b11, a12, a13, a14, a15, a16))
    (H1 : ¬ xst = 0 → tp_has l 5 N = false → ∀ n x b8 b9 b11, tp_BI f sf (fun s => f s && !sf s) a8 a9 a11 a12 0 4 x n b8 b9 b11 a12 → post n (x, 3, 0, 0, xns, xnm, xsl, xpa, xtr, xtd, xhp, xcc, xfi, xwa, xse, xlo, a1, a2, a3, a4, a5, a6, a7, b8, b9, a10, b11, a12, a13, a14, a15, a16))
    (H2 : ¬ xst = 0 → tp_has l 5 N = true → ∀ n x b8 b9 b11, tp_BI f sf (fun s => f s && !sf s) a8 a9 a11 a12 0 4 x n b8 b9 b11 a12 → post n (x, 2, 0, 0, xns, xnm, xsl, xpa, xtr, xtd, xhp, xcc, xfi, xwa, xse, xlo, a1, a2, a3, a4, a5, a6, a7, b8, b9, a10, b11, a12, a13, a14, a15, a16)) :
    wpX_breakLeader post (xop, xst, xvo, xhe, xns, xnm, xsl, xpa, xtr, xtd, xhp, xcc, xfi, xwa, xse, xlo, a1, a2, a3, a4, a5, a6, a7, a8, a9, a10, a11, a12, a13, a14, a15, a16) := by
  refine pk_loop (σ := Int32 × Int32 × (Nat → Int32) × (Nat → Int32) × (Nat → Int32))
    (fun n' t s => wX_breakLeader_4 post n' s.1 (nI t) s.2.1 xst xvo xhe xns xnm xsl xpa xtr xtd xhp xcc xfi xwa xse xlo a1 a2 a3 a4 a5 a6 a7 s.2.2.1 s.2.2.2.1 a10 s.2.2.2.2 a12 a13 a14 a15 a16)
    (fun t s => tp_BI f sf (fun s => f s && !sf s) a8 a9 a11 a12 0 t s.2.1 s.1 s.2.2.1 s.2.2.2.1 s.2.2.2.2 a12) 4 0 (0, xop, a8, a9, a11) (by omega) (by rw [ho]; exact tp_BI_0) ?_ ?_
  · rintro n' ⟨n, x, b8, b9, b11⟩ I
    refine pk_le 4 4 (fun _ => ?_) (fun z => absurd z (by omega))
    refine br_c (fun z => H0 z n x b8 b9 b11 I) (fun z => ?_)
    obtain ⟨hn1, hn2⟩ := hN z
    subst hn1
    refine tp_isLogged (m := 3) (kd := 5) (by omega) hl hb (by omega) hn2 (fun c => ?_) (fun c => ?_)
    · exact br_t rfl (H1 z c n x b8 b9 b11 I)
    · exact br_f (by decide) (H2 z c n x b8 b9 b11 I)
  · rintro n' t ⟨n, x, b8, b9, b11⟩ ht I hk
    dsimp only at I hk ⊢
    refine pk_le 4 t (fun z => absurd z (by omega)) (fun _ => ?_)
    have hv' : tp_V8 b8 := tp_BI_V hv I
    have h9t : b9 t = a9 t := tp_BI_9 ht I
    have hft : (f t && !(decide (t < t) && (f t && !sf t) && !sf t)) = f t := by simp
    have roll : f t = true → sf t = false → wX_breakLeader_32 post (wX_breakLeader_4 post n') n (nI t) x xst xvo xhe xns xnm xsl xpa xtr xtd xhp xcc xfi xwa xse xlo a1 a2 a3 a4 a5 a6 a7 b8 b9 a10 b11 a12 a13 a14 a15 a16 := by
      intro hf hsft
      unfold wX_breakLeader_32
      refine tp_rollBack (f := fun s => f s && !(decide (s < t) && (f s && !sf s) && !sf s)) hv' ht (by rw [h9t]; exact hw t ht) I.1 ?_
      refine nm_e (nm_r (nI_1 t) ?_)
      exact hk (n + 1, _, _, _, _) (tp_BI_roll hv ht (by simp [hf, hsft]) hsft I)
    have hsft := hsf t ht
    refine tp_isOpen (f := fun s => f s && !(decide (s < t) && (f s && !sf s) && !sf s)) ht I.1 (fun c => ?_) (fun c => ?_)
    · have c' : f t = false := by rw [← hft]; exact c
      refine br_t rfl (nm_r (nI_1 t) ?_)
      exact hk (n, x, b8, b9, b11) (tp_BI_skip (by simp [c']) I)
    · have c' : f t = true := by rw [← hft]; exact c
      refine br_f (by decide) (br_c (fun z0 => roll c' ?_) (fun z0 => br_c (fun z1 => nm_r (nI_1 t) ?_) (fun z1 => roll c' ?_)))
      · cases q : sf t
        · rfl
        · exact absurd z0 (hsft.mp q).1
      · exact hk (n, x, b8, b9, b11) (tp_BI_skip (by simp [hsft.mpr ⟨z0, z1⟩]) I)
      · cases q : sf t
        · rfl
        · exact absurd (hsft.mp q).2 z1
end
section
/-! the control of a commit, pure: (state, votes, heard, happened, phases, decided, killed, first, (messages, sent, lost)) -/
abbrev tp_Ms : Type := List (Nat × Nat × Nat) × Nat × Nat
abbrev tp_Ct : Type := Nat × Nat × Nat × Nat × (Nat → Nat) × Nat × Nat × Nat × tp_Ms
def tp_up (p : Nat → Nat) (m v : Nat) : Nat → Nat := fun j => if j = m then v else p j
def tp_send (tr : Nat) (s : tp_Ms) (k f t : Nat) : tp_Ms :=
  if tr = 6 ∧ s.2.2 < 10 ∧ (s.2.1 + 1) * 7 % 5 < 3 then (s.1, s.2.1 + 1, s.2.2 + 1)
  else if tr = 7 then (s.1 ++ [(k, f, t)] ++ [(k, f, t)], s.2.1 + 1, s.2.2) else (s.1 ++ [(k, f, t)], s.2.1 + 1, s.2.2)
def tp_rm1 (pa tr st vo he : Nat) (ph : Nat → Nat) (s : tp_Ms) (m : Nat) : tp_Ms :=
  if pa.testBit m = true then
    (if st = 1 then (if vo.testBit m = true then s else tp_send tr s 1 3 m)
     else if st = 2 then (if he.testBit m = true then s else tp_send tr s 4 3 m)
     else if st = 3 then (if he.testBit m = true then s else if ph m = 1 ∨ ph m = 6 then tp_send tr s 7 m 3 else tp_send tr s 5 3 m)
     else s)
  else s
def tp_rmd (pa tr st vo he : Nat) (ph : Nat → Nat) (s : tp_Ms) : tp_Ms := tp_rm1 pa tr st vo he ph (tp_rm1 pa tr st vo he ph (tp_rm1 pa tr st vo he ph s 0) 1) 2
/-- machine m breaks down while a commit is under way; only once, and only in these phases -/
def tp_cCr (pa : Nat) (m : Nat) : tp_Ct → Option tp_Ct
  | (st, vo, he, hp, ph, de, kl, fi, s) =>
    if kl = 0 ∧ ((pa.testBit m = true ∧ (ph m = 0 ∨ ph m = 1 ∨ ph m = 2)) ∨ (pa.testBit m = false ∧ ph m = 0)) then
      some (st, vo, he, hp, (if pa.testBit m = true then tp_up ph m (if ph m = 0 then 5 else if ph m = 1 then 6 else 2) else ph), de, m + 1, fi, s)
    else none
def tp_cLd : tp_Ct → Option tp_Ct
  | (_, _, _, hp, ph, de, kl, fi, s) => if kl = 0 then some ((if de = 1 then 2 else 3), 0, 0, hp, ph, de, 4, fi, s) else none
def tp_cP (pa tr td m : Nat) : tp_Ct → Option tp_Ct
  | (st, vo, he, hp, ph, de, kl, fi, s) =>
    if tr = 1 ∧ hp = 0 ∧ m = td then tp_cCr pa m (st, vo, he, 1, ph, de, kl, fi, s)
    else if ph m = 5 then some (st, vo, he, hp, ph, de, kl, fi, tp_send tr s 3 m 3)
    else if ph m = 1 then some (st, vo, he, hp, ph, de, kl, fi, tp_send tr s 2 m 3)
    else if ph m = 0 then some (st, vo, he, hp, tp_up ph m 1, de, kl, fi, tp_send tr s 2 m 3)
    else none
def tp_cC2 (pa tr td m : Nat) : tp_Ct → Option tp_Ct
  | (st, vo, he, hp, ph, de, kl, fi, s) =>
    if tr = 5 ∧ hp = 0 ∧ m = td then tp_cCr pa m (st, vo, he, 1, ph, de, kl, fi, s)
    else some (st, vo, he, hp, ph, de, kl, fi, tp_send tr s 6 m 3)
def tp_cC (pa tr td m : Nat) : tp_Ct → Option tp_Ct
  | (st, vo, he, hp, ph, de, kl, fi, s) =>
    if tr = 4 ∧ hp = 0 ∧ m = td then tp_cCr pa m (st, vo, he, 1, ph, de, kl, fi, s)
    else if ph m = 1 ∨ ph m = 6 then tp_cC2 pa tr td m (st, vo, he, hp, tp_up ph m 2, de, kl, fi, s)
    else if ph m = 2 then tp_cC2 pa tr td m (st, vo, he, hp, ph, de, kl, fi, s)
    else none
def tp_cR (tr m : Nat) : tp_Ct → Option tp_Ct
  | (st, vo, he, hp, ph, de, kl, fi, s) =>
    if ph m = 1 then some (st, vo, he, hp, tp_up ph m 3, de, kl, fi, tp_send tr s 6 m 3)
    else if ph m = 5 then some (st, vo, he, hp, ph, de, kl, fi, tp_send tr s 6 m 3)
    else none
def tp_cD3 (pa tr : Nat) : tp_Ct → Option tp_Ct
  | (st, vo, he, hp, ph, de, kl, fi, s) => some (st, vo, he, hp, ph, de, kl, fi, tp_rmd pa tr st vo he ph s)
def tp_cD2 (pa tr td : Nat) : tp_Ct → Option tp_Ct
  | (st, vo, he, hp, ph, de, kl, fi, s) =>
    if pa.testBit td = false ∧ (tr = 4 ∨ tr = 5) ∧ hp = 0 then (tp_cCr pa td (st, vo, he, 1, ph, de, kl, fi, s)).bind (tp_cD3 pa tr)
    else tp_cD3 pa tr (st, vo, he, hp, ph, de, kl, fi, s)
def tp_cD (pa tr td : Nat) : tp_Ct → Option tp_Ct
  | (st, vo, he, hp, ph, de, kl, fi, s) =>
    if vo = pa then
      (if tr = 2 ∧ hp = 0 then tp_cLd (st, vo, he, 1, ph, de, kl, fi, s)
       else if de = 0 then
         (if tr = 3 ∧ hp = 0 then (tp_cLd (2, vo, he, 1, ph, 1, kl, fi, s)).bind (tp_cD2 pa tr td) else tp_cD2 pa tr td (2, vo, he, hp, ph, 1, kl, fi, s))
       else none)
    else some (st, vo, he, hp, ph, de, kl, fi, s)
def tp_cL (pa tr td k f : Nat) : tp_Ct → Option tp_Ct
  | (st, vo, he, hp, ph, de, kl, fi, s) =>
    if k = 2 ∧ st = 1 then tp_cD pa tr td (st, vo ||| 2 ^ f, he, hp, ph, de, kl, fi, s)
    else if k = 3 ∧ st = 1 then some (3, vo, he, hp, ph, de, kl, fi, s)
    else if k = 6 ∧ (st = 2 ∨ st = 3) then some (st, vo, he ||| 2 ^ f, hp, ph, de, kl, fi, s)
    else if k = 7 then some (st, vo, he, hp, ph, de, kl, fi, tp_send tr s (if de = 1 then 4 else 5) 3 f)
    else some (st, vo, he, hp, ph, de, kl, fi, s)
def tp_cM (pa tr td k f t : Nat) (C : tp_Ct) : Option tp_Ct :=
  if k < 8 ∧ f < 4 ∧ t < 4 then
    (if t = 3 then (if f < 3 then tp_cL pa tr td k f C else none)
     else if k = 1 then tp_cP pa tr td t C else if k = 4 then tp_cC pa tr td t C else tp_cR tr t C)
  else none
def tp_cS (pa tr td : Nat) : tp_Ct → Option tp_Ct
  | (st, vo, he, hp, ph, de, kl, fi, s) =>
    match s.1[fi]? with
    | none => some (st, vo, he, hp, ph, de, kl, fi, tp_rmd pa tr st vo he ph s)
    | some q => tp_cM pa tr td q.1 q.2.1 q.2.2 (st, vo, he, hp, ph, de, kl, fi + 1, s)
def tp_ovr (pa : Nat) : tp_Ct → Bool
  | (st, _, he, _, _, _, _, _, _) => (decide (st = 2) || decide (st = 3)) && decide (he = pa)
def tp_grd (pa : Nat) : tp_Ct → Bool
  | (st, vo, he, hp, ph, de, kl, fi, s) => decide (1 ≤ st ∧ st ≤ 3 ∧ vo < 8 ∧ he < 8 ∧ hp ≤ 1 ∧ de ≤ 1 ∧ kl ≤ 4 ∧ fi ≤ s.1.length ∧ s.1.length ≤ 50 ∧ s.2.1 ≤ 1000 ∧ s.2.2 ≤ 100)
def tp_run (pa tr td : Nat) : Nat → tp_Ct → Option tp_Ct
  | 0, _ => none
  | n + 1, C => if tp_grd pa C = true then (if tp_ovr pa C = true then some C else (tp_cS pa tr td C).bind (tp_run pa tr td n)) else none
def tp_c0 : tp_Ct := (1, 0, 0, 0, fun _ => 0, 0, 0, 0, ([], 0, 0))
def tp_ini (pa tr td : Nat) : Option tp_Ct :=
  if pa.testBit td = false ∧ tr = 1 then tp_cCr pa td (1, 0, 0, 1, fun _ => 0, 0, 0, 0, ([], 0, 0)) else some tp_c0
def tp_all (pa tr td : Nat) : Option tp_Ct := ((tp_ini pa tr td).bind (tp_cD pa tr td)).bind (tp_run pa tr td 40)
def tp_fok : tp_Ct → Bool
  | (_, _, _, _, ph, _, _, _, _) => decide (ph 0 ≠ 1 ∧ ph 0 ≠ 6 ∧ ph 1 ≠ 1 ∧ ph 1 ≠ 6 ∧ ph 2 ≠ 1 ∧ ph 2 ≠ 6)
def tp_chk (pa tr td : Nat) : Bool := match tp_all pa tr td with
  | none => false
  | some C => tp_fok C
theorem tp_chk_all : ∀ pa, pa < 8 → ∀ tr, tr < 8 → ∀ td, td < 3 → tp_chk pa tr td = true := by decide +kernel
/-! messages under way: the ring never wraps -/
def tp_MQ (N fi : Nat) (Q : List (Nat × Nat × Nat)) (a13 a14 a15 a16 : Nat → Int32) : Prop :=
  ∀ i q, fi ≤ i → Q[i]? = some q → a13 i = nI q.1 ∧ a14 i = nI q.2.1 ∧ a15 i = nI q.2.2 ∧ a16 i = nI N
theorem tp_MQ_add {N fi : Nat} {Q : List (Nat × Nat × Nat)} {a13 a14 a15 a16 : Nat → Int32} {k f t : Nat} (h : tp_MQ N fi Q a13 a14 a15 a16) :
    tp_MQ N fi (Q ++ [(k, f, t)]) (upd a13 Q.length (nI k)) (upd a14 Q.length (nI f)) (upd a15 Q.length (nI t)) (upd a16 Q.length (nI N)) := by
  intro i q hi hx
  rcases Nat.lt_or_ge i Q.length with z | z
  · rw [List.getElem?_append_left z] at hx
    have hne : i ≠ Q.length := by omega
    rw [pk_un hne, pk_un hne, pk_un hne, pk_un hne]
    exact h i q hi hx
  · rw [List.getElem?_append_right z] at hx
    have h0 : i - Q.length = 0 := by
      rcases Nat.eq_zero_or_pos (i - Q.length) with y | y
      · exact y
      · rw [List.getElem?_eq_none (show [(k, f, t)].length ≤ i - Q.length from y)] at hx
        exact absurd hx (by simp)
    rw [h0] at hx
    have he : (k, f, t) = q := by simpa using hx
    have hi' : i = Q.length := by omega
    subst he hi'
    rw [pk_us, pk_us, pk_us, pk_us]
    exact ⟨rfl, rfl, rfl, rfl⟩
theorem tp_send95 {post : St1 → Prop} {xop xst xvo xhe xns xsl xpa xtr xtd xhp xcc xse xlo : Int32} {a1 a2 a3 a4 a5 a6 a7 a8 a9 a10 a11 a12 a13 a14 a15 a16 : Nat → Int32} {N fi k f t c i n : Nat} {Q : List (Nat × Nat × Nat)} (hq : tp_MQ N fi Q a13 a14 a15 a16) (hi : i < c) (hc : c < 3) (hfi : fi ≤ Q.length) (hlen : Q.length < 64) (hk : k < 16) (hf : f < 16) (ht : t < 16)
    (H : ∀ b13 b14 b15 b16, tp_MQ N fi (Q ++ [(k, f, t)]) b13 b14 b15 b16 → wX_send_95 post (nI k) (nI f) (nI t) (nI c) xop xst xvo xhe xns (nI N) xsl xpa xtr xtd xhp xcc (nI fi) xse xlo n (nI (i + 1)) (nI ((Q ++ [(k, f, t)]).length - fi)) a1 a2 a3 a4 a5 a6 a7 a8 a9 a10 a11 a12 b13 b14 b15 b16) :
    wX_send_95 post (nI k) (nI f) (nI t) (nI c) xop xst xvo xhe xns (nI N) xsl xpa xtr xtd xhp xcc (nI fi) xse xlo (n + 1) (nI i) (nI (Q.length - fi)) a1 a2 a3 a4 a5 a6 a7 a8 a9 a10 a11 a12 a13 a14 a15 a16 := by
  have hx : (nI fi + nI (Q.length - fi)) - (nI fi + nI (Q.length - fi)) / 64 * 64 = nI Q.length := by
    rw [nI_add, show fi + (Q.length - fi) = Q.length by omega]
    show nI Q.length - nI Q.length / nI 64 * nI 64 = _
    rw [pk_rem (by omega) (by omega) (by omega), Nat.mod_eq_of_lt hlen]
  have hl : nI (Q.length - fi) + 1 = nI ((Q ++ [(k, f, t)]).length - fi) := by
    rw [nI_1, List.length_append]
    congr 1
    show Q.length - fi + 1 = Q.length + 1 - fi
    omega
  have hin : vp_in (nI Q.length) 64 := vp_in_nI hlen (by omega)
  have hcl : (nI Q.length).toNatClampNeg = Q.length := nI_clamp (by omega)
  refine pk_le c i (fun z => absurd z (by omega)) (fun _ => ?_)
  refine pk_le 64 (Q.length - fi) (fun z => absurd z (by omega)) (fun _ => ⟨by decide, nm_r hx ?_⟩)
  refine ⟨hin, nm_r (e' := upd a13 Q.length (nI k)) (by rw [hcl, tp_by k hk]) ?_⟩
  refine ⟨hin, nm_r (e' := upd a14 Q.length (nI f)) (by rw [hcl, tp_by f hf]) ?_⟩
  refine ⟨hin, nm_r (e' := upd a15 Q.length (nI t)) (by rw [hcl, tp_by t ht]) ?_⟩
  refine ⟨hin, nm_r (e' := upd a16 Q.length (nI N)) (by rw [hcl]) ?_⟩
  exact nm_r hl (nm_r (nI_1 i) (H _ _ _ _ (tp_MQ_add hq)))
theorem tp_send_b (tr : Nat) (s : tp_Ms) (k f t : Nat) : s.1.length ≤ (tp_send tr s k f t).1.length ∧ (tp_send tr s k f t).1.length ≤ s.1.length + 2 ∧ (tp_send tr s k f t).2.1 = s.2.1 + 1 ∧ (tp_send tr s k f t).2.2 ≤ s.2.2 + 1 := by
  unfold tp_send
  split
  · simp
  · split <;> simp
theorem tp_sendW {post : St1 → Prop} {xop xst xvo xhe xns xsl xpa xtd xhp xcc : Int32} {a1 a2 a3 a4 a5 a6 a7 a8 a9 a10 a11 a12 a13 a14 a15 a16 : Nat → Int32} {N fi tr k f t : Nat} {s : tp_Ms} (hq : tp_MQ N fi s.1 a13 a14 a15 a16) (hfi : fi ≤ s.1.length) (hlen : s.1.length ≤ 61) (hse : s.2.1 < 100000) (hlo : s.2.2 < 1000) (htr : tr < 8) (hk : k < 16) (hf : f < 16) (ht : t < 16)
    (H : ∀ b13 b14 b15 b16, tp_MQ N fi (tp_send tr s k f t).1 b13 b14 b15 b16 → post (xop, xst, xvo, xhe, xns, nI N, xsl, xpa, nI tr, xtd, xhp, xcc, nI fi, nI ((tp_send tr s k f t).1.length - fi), nI (tp_send tr s k f t).2.1, nI (tp_send tr s k f t).2.2, a1, a2, a3, a4, a5, a6, a7, a8, a9, a10, a11, a12, b13, b14, b15, b16)) :
    wpX_send post (xop, xst, xvo, xhe, xns, nI N, xsl, xpa, nI tr, xtd, xhp, xcc, nI fi, nI (s.1.length - fi), nI s.2.1, nI s.2.2, a1, a2, a3, a4, a5, a6, a7, a8, a9, a10, a11, a12, a13, a14, a15, a16) (nI k) (nI f) (nI t) := by
  have keep : ¬ (tr = 6 ∧ s.2.2 < 10 ∧ (s.2.1 + 1) * 7 % 5 < 3) → wX_send_45 post (nI k) (nI f) (nI t) xop xst xvo xhe xns (nI N) xsl xpa (nI tr) xtd xhp xcc (nI fi) (nI (s.1.length - fi)) (nI (s.2.1 + 1)) (nI s.2.2) a1 a2 a3 a4 a5 a6 a7 a8 a9 a10 a11 a12 a13 a14 a15 a16 := by
    intro hc
    unfold tp_send at H
    rw [if_neg hc] at H
    unfold wX_send_45 wX_send_46
    refine br_t rfl ?_
    unfold wX_send_63
    refine nm_r (nI_add s.2.2 0) (br_t rfl ?_)
    refine pk_eq tr 7 (fun z => ?_) (fun z => ?_)
    · rw [if_pos z] at H
      refine ⟨3, ?_⟩
      refine tp_send95 (c := 2) (i := 0) hq (by omega) (by omega) hfi (by omega) hk hf ht (fun b13 b14 b15 b16 hq2 => ?_)
      refine tp_send95 (c := 2) (i := 1) hq2 (by omega) (by omega) (by rw [List.length_append]; omega) (by rw [List.length_append]; show s.1.length + 1 < 64; omega) hk hf ht (fun c13 c14 c15 c16 hq3 => ?_)
      exact pk_le 2 2 (fun _ => H _ _ _ _ hq3) (fun q => absurd q (by omega))
    · rw [if_neg z] at H
      refine ⟨2, ?_⟩
      refine tp_send95 (c := 1) (i := 0) hq (by omega) (by omega) hfi (by omega) hk hf ht (fun b13 b14 b15 b16 hq2 => ?_)
      exact pk_le 1 1 (fun _ => H _ _ _ _ hq2) (fun q => absurd q (by omega))
  refine nm_r (nI_1 s.2.1) ?_
  refine pk_eq tr 6 (fun z => ?_) (fun z => keep (fun q => z q.1))
  refine pk_le 10 s.2.2 (fun z2 => keep (fun q => absurd q.2.1 (by omega))) (fun z2 => ⟨by decide, ?_⟩)
  have hr : nI (s.2.1 + 1) * 7 - nI (s.2.1 + 1) * 7 / 5 * 5 = nI ((s.2.1 + 1) * 7 % 5) := by
    show nI (s.2.1 + 1) * nI 7 - nI (s.2.1 + 1) * nI 7 / nI 5 * nI 5 = _
    rw [pk_mul, pk_rem (by omega) (by omega) (by omega)]
  rw [hr]
  refine pk_le 3 ((s.2.1 + 1) * 7 % 5) (fun z3 => keep (fun q => absurd q.2.2 (by omega))) (fun z3 => ?_)
  unfold tp_send at H
  rw [if_pos ⟨z, z2, z3⟩] at H
  unfold wX_send_46
  refine br_f (by decide) ?_
  unfold wX_send_63
  refine nm_r (nI_1 s.2.2) (br_f (by decide) ⟨1, ?_⟩)
  exact pk_le 0 0 (fun _ => H _ _ _ _ hq) (fun q => absurd q (by omega))
/-! small sets as numbers below 8 -/
theorem tp_n8t : ∀ v, v < 8 → ∀ m, m < 3 → (((nI v >>> (nI m &&& 31)) &&& 1) = 0 ↔ v.testBit m = false) := by decide +kernel
theorem tp_n8o : ∀ v, v < 8 → ∀ m, m < 3 → nI v ||| ((1 : Int32) <<< (nI m &&& 31)) = nI (v ||| 2 ^ m) := by decide +kernel
theorem tp_n8l : ∀ v, v < 8 → ∀ m, m < 3 → v ||| 2 ^ m < 8 := by decide +kernel
theorem tp_n8b {A B : Prop} {v m : Nat} (hv : v < 8) (hm : m < 3) (h0 : v.testBit m = false → A) (h1 : v.testBit m = true → B) : (((nI v >>> (nI m &&& 31)) &&& 1) = 0 → A) ∧ (¬ ((nI v >>> (nI m &&& 31)) &&& 1) = 0 → B) := by
  refine br_c (fun z => h0 ((tp_n8t v hv m hm).mp z)) (fun z => h1 ?_)
  cases c : v.testBit m
  · exact absurd ((tp_n8t v hv m hm).mpr c) z
  · rfl
theorem tp_isPartN {post : Int32 → Prop} {xop xst xvo xhe xns xnm xsl xtr xtd xhp xcc xfi xwa xse xlo : Int32} {a1 a2 a3 a4 a5 a6 a7 a8 a9 a10 a11 a12 a13 a14 a15 a16 : Nat → Int32} {m pa : Nat} (hm : m < 3) (hp : pa < 8) (H0 : pa.testBit m = false → post 0) (H1 : pa.testBit m = true → post 1) : wpX_isPart post (xop, xst, xvo, xhe, xns, xnm, xsl, nI pa, xtr, xtd, xhp, xcc, xfi, xwa, xse, xlo, a1, a2, a3, a4, a5, a6, a7, a8, a9, a10, a11, a12, a13, a14, a15, a16) (nI m) :=
  tp_n8b hp hm H0 H1
theorem tp_strikes {post : Int32 → St1 → Prop} {xop xst xvo xhe xns xnm xsl xpa xcc xfi xwa xse xlo : Int32} {a1 a2 a3 a4 a5 a6 a7 a8 a9 a10 a11 a12 a13 a14 a15 a16 : Nat → Int32} {w x tr td hp : Nat} (hw : w < 8) (hx : x < 4) (htr : tr < 8) (htd : td < 4) (hhp : hp ≤ 1)
    (H1 : tr = w ∧ hp = 0 ∧ x = td → post 1 (xop, xst, xvo, xhe, xns, xnm, xsl, xpa, nI tr, nI td, nI 1, xcc, xfi, xwa, xse, xlo, a1, a2, a3, a4, a5, a6, a7, a8, a9, a10, a11, a12, a13, a14, a15, a16))
    (H0 : ¬ (tr = w ∧ hp = 0 ∧ x = td) → post 0 (xop, xst, xvo, xhe, xns, xnm, xsl, xpa, nI tr, nI td, nI hp, xcc, xfi, xwa, xse, xlo, a1, a2, a3, a4, a5, a6, a7, a8, a9, a10, a11, a12, a13, a14, a15, a16)) : wpX_strikes post (xop, xst, xvo, xhe, xns, xnm, xsl, xpa, nI tr, nI td, nI hp, xcc, xfi, xwa, xse, xlo, a1, a2, a3, a4, a5, a6, a7, a8, a9, a10, a11, a12, a13, a14, a15, a16) (nI w) (nI x) := by
  have no : ¬ (tr = w ∧ hp = 0 ∧ x = td) → wX_strikes_27 post xop xst xvo xhe xns xnm xsl xpa (nI tr) (nI td) (nI hp) xcc xfi xwa xse xlo a1 a2 a3 a4 a5 a6 a7 a8 a9 a10 a11 a12 a13 a14 a15 a16 := by
    intro hc
    have h0 := H0 hc
    unfold wX_strikes_27 wX_strikes_28
    have : hp = 0 ∨ hp = 1 := by omega
    rcases this with h | h <;> subst h
    · exact br_t rfl (br_t rfl ⟨by decide, h0⟩)
    · exact br_f (by decide) ⟨by decide, h0⟩
  refine pk_eq tr w (fun z => ?_) (fun z => no (fun q => z q.1))
  refine pk_eq hp 0 (fun z2 => ?_) (fun z2 => no (fun q => z2 q.2.1))
  refine pk_eq x td (fun z3 => ?_) (fun z3 => no (fun q => z3 q.2.2))
  unfold wX_strikes_28
  rw [z2]
  exact br_t rfl (br_f (by decide) ⟨by decide, H1 ⟨z, z2, z3⟩⟩)
end
section
/-! the data of a commit under way: D = (open, holders, written keys, written numbers, numbers, image, logs) at its start, slot, name -/
def tp_inR (x : Int32) : Prop := ¬ x < (-9999) ∧ ¬ 9999 < x
def tp_Inv (ob : Nat → Bool) (hd wk wn nb im : Nat → Int32) (lg : Nat → List tp_Ent) (nm : Nat) : Prop :=
  (∀ k, k < 12 → hd k = -1 ∨ ∃ t, t < 4 ∧ hd k = nI t ∧ ob t = true) ∧
  (∀ t, t < 4 → tp_W12 (wk t) ∧ (ob t = false → wk t = 0)) ∧
  (∀ t k, t < 4 → k < 12 → tp_bt (wk t) k = true → hd k = nI t) ∧
  (∀ t k, t < 4 → k < 12 → tp_bt (wk t) k = true → tp_inR (wn (t * 12 + k))) ∧
  (∀ k, k < 12 → tp_inR (nb k)) ∧
  (∀ m, m < 4 → (lg m).length ≤ 40 ∧ ∀ e, e ∈ lg m → e.1 < 16 ∧ e.2.1 ≤ nm ∧ e.2.2.1 < 12 ∧ (e.1 = 1 → e.2.2.1 % 3 = m)) ∧
  (∀ m, m < 3 → tp_opn (lg m) 0 = 0 ∧ ∀ k, k < 12 → k % 3 = m → tp_rpk (lg m) (lg m) k (im k) = nb k)
def tp_klf (ob : Nat → Bool) (hd : Nat → Int32) (sl kl t : Nat) : Bool := !decide (t = sl) && (if kl = 0 then false else if kl = 4 then ob t else tp_hit hd (kl - 1) t)
def tp_hdK (ob : Nat → Bool) (hd wk : Nat → Int32) (sl : Nat) (ph : Nat → Nat) (kl k : Nat) : Int32 :=
  if hd k = nI sl then (if ph (k % 3) = 0 ∨ ph (k % 3) = 1 ∨ (ph (k % 3) = 6 ∧ tp_bt (wk sl) k = true) then nI sl else -1) else if tp_klf ob hd sl kl (hd k).toNatClampNeg = true then -1 else hd k
def tp_lgK (lg : Nat → List tp_Ent) (N : Nat) (w : Int32) (v : Nat → Int32) (sl : Nat) (ph : Nat → Nat) (de : Nat) : Nat → List tp_Ent :=
  fun m => if m = 3 then lg 3 ++ (if de = 1 then [(5, N, 0, 0)] else []) else lg m ++ tp_cu N w v sl m (ph m)
def tp_MD (ob : Nat → Bool) (hd wk wn nb im : Nat → Int32) (lg : Nat → List tp_Ent) (sl N : Nat) (ph : Nat → Nat) (de kl : Nat) (xop : Int32) (a1 a2 a3 a4 a5 a6 a7 a8 a9 a10 a11 a12 : Nat → Int32) : Prop :=
  xop = nI (tp_of (fun t => ob t && !tp_klf ob hd sl kl t)) ∧
  (∀ k, k < 12 → a1 k = im k) ∧
  tp_LAs (tp_lgK lg N (wk sl) wn sl ph de) a2 a3 a4 a5 a6 ∧
  (∀ k, k < 12 → a7 k = if ph (k % 3) = 2 ∧ tp_bt (wk sl) k = true then wn (sl * 12 + k) else nb k) ∧
  (∀ k, k < 12 → a8 k = tp_hdK ob hd wk sl ph kl k) ∧
  (∀ t, t < 4 → t ≠ sl → a9 t = if tp_klf ob hd sl kl t = true then 0 else wk t) ∧
  (tp_W12 (a9 sl) ∧ ∀ k, k < 12 → tp_bt (a9 sl) k = (tp_bt (wk sl) k && decide (ph (k % 3) = 0 ∨ ph (k % 3) = 1 ∨ ph (k % 3) = 6))) ∧
  (∀ t k, t < 4 → k < 12 → tp_bt (wk t) k = true → a10 (t * 12 + k) = wn (t * 12 + k)) ∧
  (∀ m, m < 3 → a11 (sl * 3 + m) = if ph m = 1 ∨ ph m = 6 then nI N else 0) ∧
  (∀ t m, t < 4 → t ≠ sl → m < 3 → a11 (t * 3 + m) = 0) ∧
  (∀ m, m < 3 → (ph m = 0 ∨ ph m = 1 → a12 (sl * 3 + m) = 0) ∧ (ph m = 5 → a12 (sl * 3 + m) = 1)) ∧
  (∀ t m, t < 4 → t ≠ sl → ob t = true → m < 3 → a12 (t * 3 + m) = 0)
theorem tp_klf_sl (ob : Nat → Bool) (hd : Nat → Int32) (sl kl : Nat) : tp_klf ob hd sl kl sl = false := by simp [tp_klf]
theorem tp_klf_0 (ob : Nat → Bool) (hd : Nat → Int32) (sl t : Nat) : tp_klf ob hd sl 0 t = false := by simp [tp_klf]
theorem tp_hdK_V {ob : Nat → Bool} {hd wk : Nat → Int32} {sl : Nat} {ph : Nat → Nat} {kl : Nat} (hs : sl < 4) (h : ∀ k, k < 12 → hd k = -1 ∨ ∃ t, t < 4 ∧ hd k = nI t ∧ ob t = true) : tp_V8 (tp_hdK ob hd wk sl ph kl) := by
  intro k hk
  unfold tp_hdK
  split
  · split
    · exact Or.inr ⟨sl, hs, rfl⟩
    · exact Or.inl rfl
  · split
    · exact Or.inl rfl
    · rcases h k hk with e | ⟨t, ht, e, _⟩
      · exact Or.inl e
      · exact Or.inr ⟨t, ht, e⟩
theorem tp_V8_cg {a b : Nat → Int32} (h : ∀ k, k < 12 → a k = b k) (hb : tp_V8 b) : tp_V8 a := by
  intro k hk
  rw [h k hk]
  exact hb k hk
theorem tp_MD_V {ob : Nat → Bool} {hd wk wn nb im : Nat → Int32} {lg : Nat → List tp_Ent} {sl N : Nat} {ph : Nat → Nat} {de kl nm : Nat} {xop : Int32} {a1 a2 a3 a4 a5 a6 a7 a8 a9 a10 a11 a12 : Nat → Int32} (hI : tp_Inv ob hd wk wn nb im lg nm) (hs : sl < 4)
    (M : tp_MD ob hd wk wn nb im lg sl N ph de kl xop a1 a2 a3 a4 a5 a6 a7 a8 a9 a10 a11 a12) : tp_V8 a8 :=
  tp_V8_cg M.2.2.2.2.1 (tp_hdK_V hs hI.1)
theorem tp_MD_W {ob : Nat → Bool} {hd wk wn nb im : Nat → Int32} {lg : Nat → List tp_Ent} {sl N : Nat} {ph : Nat → Nat} {de kl nm : Nat} {xop : Int32} {a1 a2 a3 a4 a5 a6 a7 a8 a9 a10 a11 a12 : Nat → Int32} (hI : tp_Inv ob hd wk wn nb im lg nm) (hs : sl < 4)
    (M : tp_MD ob hd wk wn nb im lg sl N ph de kl xop a1 a2 a3 a4 a5 a6 a7 a8 a9 a10 a11 a12) : ∀ t, t < 4 → tp_W12 (a9 t) := by
  intro t ht
  by_cases e : t = sl
  · rw [e]; exact M.2.2.2.2.2.2.1.1
  · rw [M.2.2.2.2.2.1 t ht e]
    split
    · exact tp_W12_0
    · exact (hI.2.1 t ht).1
theorem tp_lgK_len {ob : Nat → Bool} {hd wk wn nb im : Nat → Int32} {lg : Nat → List tp_Ent} {sl N : Nat} {nm : Nat} (hI : tp_Inv ob hd wk wn nb im lg nm) (ph : Nat → Nat) (de : Nat) {m : Nat} (hm : m < 4) : (tp_lgK lg N (wk sl) wn sl ph de m).length ≤ 46 := by
  unfold tp_lgK
  have h := (hI.2.2.2.2.2.1 m hm).1
  by_cases e : m = 3
  · rw [if_pos e, List.length_append]
    rw [e] at h
    have : (if de = 1 then [((5 : Nat), N, (0 : Nat), (0 : Int32))] else []).length ≤ 1 := by split <;> simp
    omega
  · rw [if_neg e, List.length_append]
    have := tp_cu_len N (wk sl) wn sl m (ph m)
    omega
theorem tp_up_at (p : Nat → Nat) (m v : Nat) : tp_up p m v m = v := by simp [tp_up]
theorem tp_up_ne (p : Nat → Nat) {m j : Nat} (v : Nat) (h : j ≠ m) : tp_up p m v j = p j := by simp [tp_up, h]
/-! a promise is written down -/
theorem tp_pm_step {post : St1 → Prop} {xop xst xvo xhe xns xpa xtr xtd xhp xcc xfi xwa xse xlo : Int32} {a1 a2 a3 a4 a5 a6 a7 a8 a9 a10 a11 a12 a13 a14 a15 a16 : Nat → Int32} {N sl m k n : Nat} {lg1 : Nat → List tp_Ent} {w : Int32} {v : Nat → Int32} (hm : m < 3) (hs : sl < 4) (hk : k < 12) (hN : N < 1048576) (hl : tp_LAs lg1 a2 a3 a4 a5 a6) (hlen : (lg1 m).length < 64)
    (hbit : tp_bt (a9 sl) k = tp_bt w k) (hv : tp_bt w k = true → a10 (sl * 12 + k) = v (sl * 12 + k))
    (H : ∀ b2 b3 b4 b5 b6, tp_LAs (tp_ul lg1 m (lg1 m ++ tp_w1 N w v sl k)) b2 b3 b4 b5 b6 → wX_promiseOn_2 post (nI m) n (nI (k + 3)) xop xst xvo xhe xns (nI N) (nI sl) xpa xtr xtd xhp xcc xfi xwa xse xlo a1 b2 b3 b4 b5 b6 a7 a8 a9 a10 a11 a12 a13 a14 a15 a16) :
    wX_promiseOn_2 post (nI m) (n + 1) (nI k) xop xst xvo xhe xns (nI N) (nI sl) xpa xtr xtd xhp xcc xfi xwa xse xlo a1 a2 a3 a4 a5 a6 a7 a8 a9 a10 a11 a12 a13 a14 a15 a16 := by
  refine pk_le 12 k (fun z => absurd z (by omega)) (fun _ => ?_)
  refine And.intro (pk_in sl 4 hs) ?_
  rw [nI_clamp (show sl < 2 ^ 31 by omega)]
  have ht := tp_tst (x := a9 sl) (n := k) (by omega)
  cases hb : tp_bt w k
  · refine br_t (ht.mpr (by rw [hbit, hb])) (br_t rfl (nm_r (nI_add k 3) (H a2 a3 a4 a5 a6 (tp_LAs_cg (fun j _ => ?_) hl))))
    unfold tp_ul tp_w1
    rw [if_neg (show ¬ tp_bt w k = true by rw [hb]; simp), List.append_nil]
    by_cases e : j = m
    · rw [if_pos e, e]
    · rw [if_neg e]
  · refine br_f (fun z => absurd (ht.mp z) (by rw [hbit, hb]; simp)) (br_f (by decide) ⟨pk_in (sl * 12 + k) 48 (by omega) tp_ix12, ?_⟩)
    rw [show (nI sl * 12 + nI k).toNatClampNeg = sl * 12 + k by rw [tp_ix12, nI_clamp (show sl * 12 + k < 2 ^ 31 by omega)], hv hb]
    refine tp_log (e := (1, N, k, v (sl * 12 + k))) (by omega) hl hlen ⟨by show 1 < 16; omega, hN, hk⟩ (fun b2 b3 b4 b5 b6 h => ?_)
    refine nm_r (nI_add k 3) (H b2 b3 b4 b5 b6 ?_)
    unfold tp_w1
    rw [if_pos hb]
    exact h
theorem tp_ul_at (lg : Nat → List tp_Ent) (m : Nat) (l : List tp_Ent) : tp_ul lg m l m = l := by simp [tp_ul]
theorem tp_ul_ul (lg : Nat → List tp_Ent) (m : Nat) (l l' : List tp_Ent) : tp_ul (tp_ul lg m l) m l' = tp_ul lg m l' := by
  funext j
  unfold tp_ul
  by_cases e : j = m <;> simp [e]
theorem tp_promiseOn {post : St1 → Prop} {xop xst xvo xhe xns xpa xtr xtd xhp xcc xfi xwa xse xlo : Int32} {a1 a2 a3 a4 a5 a6 a7 a8 a9 a10 a11 a12 a13 a14 a15 a16 : Nat → Int32} {N sl m : Nat} {lg1 : Nat → List tp_Ent} {w : Int32} {v : Nat → Int32} (hm : m < 3) (hs : sl < 4) (hN : N < 1048576) (hl : tp_LAs lg1 a2 a3 a4 a5 a6) (hlen : (lg1 m).length ≤ 46)
    (hbit : ∀ k, k < 12 → k % 3 = m → tp_bt (a9 sl) k = tp_bt w k) (hv : ∀ k, k < 12 → tp_bt w k = true → a10 (sl * 12 + k) = v (sl * 12 + k))
    (H : ∀ b2 b3 b4 b5 b6, tp_LAs (tp_ul lg1 m (lg1 m ++ tp_pr N w v sl m)) b2 b3 b4 b5 b6 → post (xop, xst, xvo, xhe, xns, nI N, nI sl, xpa, xtr, xtd, xhp, xcc, xfi, xwa, xse, xlo, a1, b2, b3, b4, b5, b6, a7, a8, a9, a10, upd a11 (sl * 3 + m) (nI N), a12, a13, a14, a15, a16)) :
    wpX_promiseOn post (xop, xst, xvo, xhe, xns, nI N, nI sl, xpa, xtr, xtd, xhp, xcc, xfi, xwa, xse, xlo, a1, a2, a3, a4, a5, a6, a7, a8, a9, a10, a11, a12, a13, a14, a15, a16) (nI m) := by
  show ∃ n, wX_promiseOn_2 post (nI m) n (nI m) xop xst xvo xhe xns (nI N) (nI sl) xpa xtr xtd xhp xcc xfi xwa xse xlo a1 a2 a3 a4 a5 a6 a7 a8 a9 a10 a11 a12 a13 a14 a15 a16
  refine ⟨5, ?_⟩
  have l1 := tp_w1_len N w v sl m
  have l2 := tp_w1_len N w v sl (m + 3)
  have l3 := tp_w1_len N w v sl (m + 6)
  have l4 := tp_w1_len N w v sl (m + 9)
  refine tp_pm_step hm hs (by omega) hN hl (by omega) (hbit m (by omega) (by omega)) (hv m (by omega)) (fun b2 b3 b4 b5 b6 h1 => ?_)
  refine tp_pm_step hm hs (by omega) hN h1 (by rw [tp_ul_at, List.length_append]; omega) (hbit (m + 3) (by omega) (by omega)) (hv (m + 3) (by omega)) (fun c2 c3 c4 c5 c6 h2 => ?_)
  rw [tp_ul_at, tp_ul_ul] at h2
  refine tp_pm_step hm hs (by omega) hN h2 (by rw [tp_ul_at, List.length_append, List.length_append]; omega) (hbit (m + 6) (by omega) (by omega)) (hv (m + 6) (by omega)) (fun d2 d3 d4 d5 d6 h3 => ?_)
  rw [tp_ul_at, tp_ul_ul] at h3
  refine tp_pm_step hm hs (by omega) hN h3 (by rw [tp_ul_at, List.length_append, List.length_append, List.length_append]; show _ + (tp_w1 N w v sl (m + 6)).length < 64; omega) (hbit (m + 9) (by omega) (by omega)) (hv (m + 9) (by omega)) (fun e2 e3 e4 e5 e6 h4 => ?_)
  rw [tp_ul_at, tp_ul_ul] at h4
  refine pk_le 12 (m + 3 + 3 + 3 + 3) (fun _ => ?_) (fun z => absurd z (by omega))
  refine tp_log (e := (2, N, 0, 0)) (by omega) h4 ?_ ⟨by show 2 < 16; omega, hN, by show 0 < 12; omega⟩ (fun g2 g3 g4 g5 g6 h5 => ?_)
  · rw [tp_ul_at, List.length_append, List.length_append, List.length_append, List.length_append]
    show _ + (tp_w1 N w v sl (m + 6)).length + (tp_w1 N w v sl (m + 9)).length < 64
    omega
  rw [tp_ul_at, tp_ul_ul] at h5
  refine ⟨pk_in (sl * 3 + m) 12 (by omega) tp_ix3, nm_r (by rw [tp_ix3, nI_clamp (show sl * 3 + m < 2 ^ 31 by omega)]) (H g2 g3 g4 g5 g6 ?_)⟩
  have e : lg1 m ++ tp_pr N w v sl m = lg1 m ++ tp_w1 N w v sl m ++ tp_w1 N w v sl (m + 3) ++ tp_w1 N w v sl (m + 3 + 3) ++ tp_w1 N w v sl (m + 3 + 3 + 3) ++ [(2, N, 0, 0)] := by
    unfold tp_pr tp_ws
    simp only [List.append_assoc]
  rw [e]
  exact h5
theorem tp_MD_prom {ob : Nat → Bool} {hd wk wn nb im : Nat → Int32} {lg : Nat → List tp_Ent} {sl N : Nat} {ph : Nat → Nat} {de kl m : Nat} {xop : Int32} {a1 a2 a3 a4 a5 a6 a7 a8 a9 a10 a11 a12 b2 b3 b4 b5 b6 : Nat → Int32} (hm : m < 3) (hp : ph m = 0)
    (M : tp_MD ob hd wk wn nb im lg sl N ph de kl xop a1 a2 a3 a4 a5 a6 a7 a8 a9 a10 a11 a12)
    (h : tp_LAs (tp_ul (tp_lgK lg N (wk sl) wn sl ph de) m (tp_lgK lg N (wk sl) wn sl ph de m ++ tp_pr N (wk sl) wn sl m)) b2 b3 b4 b5 b6) :
    tp_MD ob hd wk wn nb im lg sl N (tp_up ph m 1) de kl xop a1 b2 b3 b4 b5 b6 a7 a8 a9 a10 (upd a11 (sl * 3 + m) (nI N)) a12 := by
  obtain ⟨m1, m2, m3, m4, m5, m6, m7, m8, m9, m10, m11, m12⟩ := M
  refine ⟨m1, m2, tp_LAs_cg (fun j hj => ?_) h, fun k hk => ?_, fun k hk => ?_, m6, ⟨m7.1, fun k hk => ?_⟩, m8, fun j hj => ?_, fun t j ht hne hj => ?_, fun j hj => ?_, m12⟩
  · unfold tp_ul tp_lgK
    by_cases e : j = m
    · subst e
      rw [if_pos rfl, if_neg (by omega), if_neg (by omega), tp_up_at, hp]
      simp [tp_cu]
    · rw [if_neg e]
      by_cases e3 : j = 3
      · rw [if_pos e3, if_pos e3]
      · rw [if_neg e3, if_neg e3, tp_up_ne ph 1 e]
  · rw [m4 k hk]
    by_cases e : k % 3 = m
    · rw [e, hp, tp_up_at]; simp
    · rw [tp_up_ne ph 1 e]
  · rw [m5 k hk]
    unfold tp_hdK
    by_cases e : k % 3 = m
    · rw [e, hp, tp_up_at]; simp
    · rw [tp_up_ne ph 1 e]
  · rw [m7.2 k hk]
    by_cases e : k % 3 = m
    · rw [e, hp, tp_up_at]; simp
    · rw [tp_up_ne ph 1 e]
  · by_cases e : j = m
    · subst e; rw [pk_us, tp_up_at]; simp
    · rw [pk_un (by omega), m9 j hj, tp_up_ne ph 1 e]
  · rw [pk_un (by omega)]; exact m10 t j ht hne hj
  · by_cases e : j = m
    · subst e
      rw [tp_up_at]
      exact ⟨fun _ => (m11 j hj).1 (Or.inl hp), fun z => absurd z (by omega)⟩
    · rw [tp_up_ne ph 1 e]; exact m11 j hj
/-! released on a machine: done or undone -/
theorem tp_MD_rel {ob : Nat → Bool} {hd wk wn nb im : Nat → Int32} {lg : Nat → List tp_Ent} {sl N : Nat} {ph : Nat → Nat} {de kl m p nm : Nat} {xop : Int32} {a1 a2 a3 a4 a5 a6 a7 a8 a9 a10 a11 a12 b2 b3 b4 b5 b6 b7 : Nat → Int32} (hs : sl < 4) (hI : tp_Inv ob hd wk wn nb im lg nm) (hm : m < 3) (hp : p = 2 ∨ p = 3)
    (M : tp_MD ob hd wk wn nb im lg sl N ph de kl xop a1 a2 a3 a4 a5 a6 a7 a8 a9 a10 a11 a12)
    (h : tp_LAs (tp_lgK lg N (wk sl) wn sl (tp_up ph m p) de) b2 b3 b4 b5 b6)
    (h7 : ∀ k, k < 12 → b7 k = if tp_up ph m p (k % 3) = 2 ∧ tp_bt (wk sl) k = true then wn (sl * 12 + k) else nb k) :
    tp_MD ob hd wk wn nb im lg sl N (tp_up ph m p) de kl xop a1 b2 b3 b4 b5 b6 b7 (tp_r8 a8 sl m) (upd a9 sl (tp_c4 (a9 sl) m)) a10 (upd a11 (sl * 3 + m) 0) a12 := by
  obtain ⟨m1, m2, m3, m4, m5, m6, m7, m8, m9, m10, m11, m12⟩ := M
  have hnm : ¬ (-1 : Int32) = nI sl := fun z => tp_m1 (show sl < 16 by omega) z.symm
  refine ⟨m1, m2, h, h7, fun k hk => ?_, fun t ht hne => ?_, ⟨?_, fun k hk => ?_⟩, m8, fun j hj => ?_, fun t j ht hne hj => ?_, fun j hj => ?_, m12⟩
  · show (if k < 12 ∧ k % 3 = m ∧ a8 k = nI sl then -1 else a8 k) = _
    rw [m5 k hk]
    by_cases e : k % 3 = m
    · unfold tp_hdK
      rw [e, tp_up_at]
      by_cases c : hd k = nI sl
      · rw [if_pos c, if_pos c, if_neg (show ¬ (p = 0 ∨ p = 1 ∨ (p = 6 ∧ tp_bt (wk sl) k = true)) by omega)]
        by_cases c2 : ph m = 0 ∨ ph m = 1 ∨ (ph m = 6 ∧ tp_bt (wk sl) k = true)
        · rw [if_pos c2, if_pos ⟨hk, rfl, rfl⟩]
        · rw [if_neg c2]
          split <;> rfl
      · rw [if_neg c, if_neg c]
        by_cases c2 : tp_klf ob hd sl kl (hd k).toNatClampNeg = true
        · rw [if_pos c2, if_neg (fun z => hnm z.2.2)]
        · rw [if_neg c2, if_neg (fun z => c z.2.2)]
    · rw [if_neg (fun z => e z.2.1)]
      unfold tp_hdK
      rw [tp_up_ne ph p e]
  · rw [pk_un hne]; exact m6 t ht hne
  · rw [pk_us]; exact tp_c4_W m7.1 hm
  · rw [pk_us, tp_c4_bt m7.1 hm, m7.2 k hk]
    by_cases e : k % 3 = m
    · rw [e, tp_up_at]
      rcases hp with q | q <;> subst q <;> simp
    · rw [tp_up_ne ph p e]
      simp [e]
  · by_cases e : j = m
    · subst e
      rw [pk_us, tp_up_at, if_neg (by omega)]
    · rw [pk_un (by omega), m9 j hj, tp_up_ne ph p e]
  · rw [pk_un (by omega)]; exact m10 t j ht hne hj
  · by_cases e : j = m
    · subst e
      rw [tp_up_at]
      exact ⟨fun z => absurd z (by omega), fun z => absurd z (by omega)⟩
    · rw [tp_up_ne ph p e]; exact m11 j hj
/-- a machine that is released already is released again -/
theorem tp_MD_rel5 {ob : Nat → Bool} {hd wk wn nb im : Nat → Int32} {lg : Nat → List tp_Ent} {sl N : Nat} {ph : Nat → Nat} {de kl m : Nat} {xop : Int32} {a1 a2 a3 a4 a5 a6 a7 a8 a9 a10 a11 a12 : Nat → Int32} (hs : sl < 4) (hm : m < 3) (hp : ph m = 5)
    (M : tp_MD ob hd wk wn nb im lg sl N ph de kl xop a1 a2 a3 a4 a5 a6 a7 a8 a9 a10 a11 a12) :
    tp_MD ob hd wk wn nb im lg sl N ph de kl xop a1 a2 a3 a4 a5 a6 a7 (tp_r8 a8 sl m) (upd a9 sl (tp_c4 (a9 sl) m)) a10 (upd a11 (sl * 3 + m) 0) a12 := by
  obtain ⟨m1, m2, m3, m4, m5, m6, m7, m8, m9, m10, m11, m12⟩ := M
  have hnm : ¬ (-1 : Int32) = nI sl := fun z => tp_m1 (show sl < 16 by omega) z.symm
  refine ⟨m1, m2, m3, m4, fun k hk => ?_, fun t ht hne => ?_, ⟨?_, fun k hk => ?_⟩, m8, fun j hj => ?_, fun t j ht hne hj => ?_, m11, m12⟩
  · show (if k < 12 ∧ k % 3 = m ∧ a8 k = nI sl then -1 else a8 k) = _
    rw [m5 k hk, if_neg]
    rintro ⟨_, e, z⟩
    unfold tp_hdK at z
    rw [e, hp] at z
    by_cases c : hd k = nI sl
    · rw [if_pos c, if_neg (by omega)] at z; exact hnm z
    · rw [if_neg c] at z
      by_cases c2 : tp_klf ob hd sl kl (hd k).toNatClampNeg = true
      · rw [if_pos c2] at z; exact hnm z
      · rw [if_neg c2] at z; exact c z
  · rw [pk_un hne]; exact m6 t ht hne
  · rw [pk_us]; exact tp_c4_W m7.1 hm
  · rw [pk_us, tp_c4_bt m7.1 hm, m7.2 k hk]
    by_cases e : k % 3 = m
    · rw [e, hp]; simp
    · simp [e]
  · by_cases e : j = m
    · subst e
      rw [pk_us, hp]; simp
    · rw [pk_un (by omega)]; exact m9 j hj
  · rw [pk_un (by omega)]; exact m10 t j ht hne hj
end
section
/-! a machine, or the leader, breaks down while a commit is under way -/
theorem tp_hitK {ob : Nat → Bool} {hd wk : Nat → Int32}  {sl : Nat} {ph : Nat → Nat} {a8 : Nat → Int32} {m t : Nat} (hs : sl < 4) (hm : m < 3) (ht : t < 4) (hne : t ≠ sl) (h8 : ∀ k, k < 12 → a8 k = tp_hdK ob hd wk sl ph 0 k) : tp_hit a8 m t = tp_hit hd m t := by
  have key : ∀ k, k < 12 → (a8 k = nI t ↔ hd k = nI t) := by
    intro k hk
    have hn1 : ¬ nI sl = nI t := fun z => hne (tp_ni (by omega) (by omega) z).symm
    have hn2 : ¬ (-1 : Int32) = nI t := fun z => tp_m1 (show t < 16 by omega) z.symm
    rw [h8 k hk]
    unfold tp_hdK
    by_cases c : hd k = nI sl
    · rw [if_pos c, c]
      by_cases c2 : ph (k % 3) = 0 ∨ ph (k % 3) = 1 ∨ (ph (k % 3) = 6 ∧ tp_bt (wk sl) k = true)
      · rw [if_pos c2]
      · rw [if_neg c2]
        exact ⟨fun z => absurd z hn2, fun z => absurd z hn1⟩
    · rw [if_neg c, if_neg (by rw [tp_klf_0]; simp)]
  have e := tp_hit_iff (a := a8) (t := t) hm
  have e' := tp_hit_iff (a := hd) (t := t) hm
  cases c : tp_hit hd m t
  · cases c' : tp_hit a8 m t
    · rfl
    · obtain ⟨k, hk, hkm, z⟩ := e.mp c'
      rw [e'.mpr ⟨k, hk, hkm, (key k hk).mp z⟩] at c
      exact absurd c (by simp)
  · obtain ⟨k, hk, hkm, z⟩ := e'.mp c
    exact e.mpr ⟨k, hk, hkm, (key k hk).mpr z⟩
theorem tp_LB_key  {l : List tp_Ent} (hb : tp_LB l) : ∀ e, e ∈ l → e.2.2.1 < 12 := fun e he => (hb.2 e he).2.2
theorem tp_lgK_key {ob : Nat → Bool} {hd wk wn nb im : Nat → Int32} {lg : Nat → List tp_Ent} {sl N : Nat} {nm de m : Nat} {ph : Nat → Nat} (hI : tp_Inv ob hd wk wn nb im lg nm) (hm : m < 3) : ∀ e, e ∈ tp_lgK lg N (wk sl) wn sl ph de m → e.1 = 1 → e.2.2.1 % 3 = m := by
  intro e he h1
  unfold tp_lgK at he
  rw [if_neg (by omega)] at he
  rcases List.mem_append.mp he with z | z
  · exact ((hI.2.2.2.2.2.1 m (by omega)).2 e z).2.2.2 h1
  · exact (tp_cu_mem hm z).2.2.2.2 h1
theorem tp_lgK_rp {ob : Nat → Bool} {hd wk wn nb im : Nat → Int32} {lg : Nat → List tp_Ent} {sl N : Nat} {nm de m k : Nat} {ph : Nat → Nat} (hI : tp_Inv ob hd wk wn nb im lg nm) (hN : N = nm + 1) (hm : m < 3) (hk : k < 12) (hkm : k % 3 = m) :
    tp_rpk (tp_lgK lg N (wk sl) wn sl ph de m) (tp_lgK lg N (wk sl) wn sl ph de m) k (im k) = if ph m = 2 ∧ tp_bt (wk sl) k = true then wn (sl * 12 + k) else nb k := by
  unfold tp_lgK
  rw [if_neg (by omega)]
  refine tp_rep hm hk hkm (fun e he => ?_) ((hI.2.2.2.2.2.2 m hm).2 k hk hkm)
  have := ((hI.2.2.2.2.2.1 m (by omega)).2 e he).2.1
  omega
theorem tp_lgK_op {ob : Nat → Bool} {hd wk wn nb im : Nat → Int32} {lg : Nat → List tp_Ent} {sl N : Nat} {nm de m : Nat} {ph : Nat → Nat} (hI : tp_Inv ob hd wk wn nb im lg nm) (hm : m < 3) :
    tp_opn (tp_lgK lg N (wk sl) wn sl ph de m) 0 = if ph m = 1 ∨ ph m = 6 then N else 0 := by
  unfold tp_lgK
  rw [if_neg (by omega)]
  exact tp_rep_opn (hI.2.2.2.2.2.2 m hm).1
/-- numbers after coming back: as they were -/
theorem tp_cb7 {ob : Nat → Bool} {hd wk wn nb im : Nat → Int32} {lg : Nat → List tp_Ent} {sl N : Nat} {nm de m : Nat} {ph : Nat → Nat} {a1 a7 : Nat → Int32} (hI : tp_Inv ob hd wk wn nb im lg nm) (hN : N = nm + 1) (hm : m < 3) (h1 : ∀ k, k < 12 → a1 k = im k)
    (h7 : ∀ k, k < 12 → a7 k = if ph (k % 3) = 2 ∧ tp_bt (wk sl) k = true then wn (sl * 12 + k) else nb k) :
    ∀ k, k < 12 → tp_rpl (tp_lgK lg N (wk sl) wn sl ph de m) (tp_lgK lg N (wk sl) wn sl ph de m) (tp_i7 a1 a7 m) k = if ph (k % 3) = 2 ∧ tp_bt (wk sl) k = true then wn (sl * 12 + k) else nb k := by
  intro k hk
  rw [tp_rpl_at]
  unfold tp_i7
  by_cases e : k % 3 = m
  · rw [if_pos ⟨hk, e⟩, h1 k hk, tp_lgK_rp hI hN hm hk e, e]
  · rw [if_neg (fun z => e z.2), ← h7 k hk]
    refine tp_rpk_id _ k (fun tr x => ?_) _ _
    refine tp_apk_no tr k _ x (fun e' he' z => e ?_)
    rw [← z.2.2]
    exact tp_lgK_key hI hm e' he' z.1
theorem tp_lgK_cg  {wk wn : Nat → Int32} {lg : Nat → List tp_Ent} {sl N : Nat} {de : Nat} {ph ph' : Nat → Nat} {a2 a3 a4 a5 a6 : Nat → Int32} (h : ∀ j, j < 3 → tp_cu N (wk sl) wn sl j (ph j) = tp_cu N (wk sl) wn sl j (ph' j)) (k : tp_LAs (tp_lgK lg N (wk sl) wn sl ph de) a2 a3 a4 a5 a6) :
    tp_LAs (tp_lgK lg N (wk sl) wn sl ph' de) a2 a3 a4 a5 a6 := by
  refine tp_LAs_cg (fun j hj => ?_) k
  unfold tp_lgK
  by_cases e : j = 3
  · rw [if_pos e, if_pos e]
  · rw [if_neg e, if_neg e, h j (by omega)]
/-- the data after a breakdown of machine m, before what is in doubt is held again -/
theorem tp_MD_cr {ob : Nat → Bool} {hd wk wn nb im : Nat → Int32} {lg : Nat → List tp_Ent} {sl N : Nat} {ph : Nat → Nat} {de m nm p' : Nat} {hs' : Bool} {xop x n : Int32} {a1 a2 a3 a4 a5 a6 a7 a8 a9 a10 a11 a12 b7 b8 b9 b11 b12 : Nat → Int32} (hs : sl < 4) (hI : tp_Inv ob hd wk wn nb im lg nm) (hm : m < 3)
    (M : tp_MD ob hd wk wn nb im lg sl N ph de 0 xop a1 a2 a3 a4 a5 a6 a7 a8 a9 a10 a11 a12)
    (hh : tp_hit a8 m sl = hs')
    (hc : (hs' = true ∧ ph m = 0 ∧ p' = 5) ∨ (hs' = false ∧ p' = ph m ∧ ∀ k, k < 12 → k % 3 = m → a8 k ≠ nI sl))
    (h7 : ∀ k, k < 12 → b7 k = if ph (k % 3) = 2 ∧ tp_bt (wk sl) k = true then wn (sl * 12 + k) else nb k)
    (I : tp_BI ob (fun s => decide (s = sl)) (tp_hit a8 m) a8 a9 a11 a12 m 4 x n b8 b9 b11 b12) :
    tp_MD ob hd wk wn nb im lg sl N (tp_up ph m p') de (m + 1) x a1 a2 a3 a4 a5 a6 b7 b8 b9 a10 b11 b12 := by
  obtain ⟨m1, m2, m3, m4, m5, m6, m7, m8, m9, m10, m11, m12⟩ := M
  obtain ⟨i0, i8, i9, i11, i12, _⟩ := I
  have hklf : ∀ t, t ≠ sl → tp_klf ob hd sl (m + 1) t = tp_hit hd m t := by
    intro t ht
    unfold tp_klf
    rw [if_neg (by omega), if_neg (by omega)]
    simp [ht]
  have hkt : ∀ t, t < 4 → t ≠ sl → tp_hit a8 m t = tp_hit hd m t := fun t ht hne => tp_hitK hs hm ht hne m5
  have hnm : ¬ (-1 : Int32) = nI sl := fun z => tp_m1 (show sl < 16 by omega) z.symm
  refine ⟨?_, m2, tp_lgK_cg (fun j hj => ?_) m3, fun k hk => ?_, fun k hk => ?_, fun t ht hne => ?_, ⟨?_, fun k hk => ?_⟩, m8, fun j hj => ?_, fun t j ht hne hj => ?_, fun j hj => ?_, fun t j ht hne hob hj => ?_⟩
  · rw [i0, tp_of_cg (fun t ht => ?_)]
    by_cases e : t = sl
    · rw [e, tp_klf_sl]; simp
    · rw [hklf t e, hkt t ht e]
      simp [e, ht]
  · by_cases e : j = m
    · subst e
      rw [tp_up_at]
      rcases hc with ⟨_, q1, q2⟩ | ⟨_, q2, _⟩
      · rw [q1, q2]; simp [tp_cu]
      · rw [q2]
    · rw [tp_up_ne ph p' e]
  · rw [h7 k hk]
    by_cases e : k % 3 = m
    · rw [e, tp_up_at]
      rcases hc with ⟨_, q1, q2⟩ | ⟨_, q2, _⟩
      · rw [q1, q2]; simp
      · rw [q2]
    · rw [tp_up_ne ph p' e]
  · have e8 := m5 k hk
    rw [i8 k hk]
    by_cases c : hd k = nI sl
    · have e8' : a8 k = if ph (k % 3) = 0 ∨ ph (k % 3) = 1 ∨ (ph (k % 3) = 6 ∧ tp_bt (wk sl) k = true) then nI sl else -1 := by
        rw [e8]; unfold tp_hdK; rw [if_pos c]
      unfold tp_hdK
      rw [if_pos c]
      by_cases e : k % 3 = m
      · rw [e, tp_up_at]
        rcases hc with ⟨q0, q1, q2⟩ | ⟨q0, q2, q3⟩
        · rw [e, if_pos (Or.inl q1)] at e8'
          rw [if_pos, if_neg (by omega)]
          unfold tp_bdk
          rw [e8', nI_clamp (show sl < 2 ^ 31 by omega), hh, q0]
          simp [e]; omega
        · have hk8 := q3 k hk e
          rw [q2]
          rw [e] at e8'
          by_cases c2 : ph m = 0 ∨ ph m = 1 ∨ (ph m = 6 ∧ tp_bt (wk sl) k = true)
          · rw [if_pos c2] at e8'; exact absurd e8' hk8
          · rw [if_neg c2] at e8' ⊢
            rw [e8']; split <;> rfl
      · rw [tp_up_ne ph p' e]
        by_cases c2 : ph (k % 3) = 0 ∨ ph (k % 3) = 1 ∨ (ph (k % 3) = 6 ∧ tp_bt (wk sl) k = true)
        · rw [if_pos c2] at e8' ⊢
          rw [if_neg, e8']
          unfold tp_bdk
          rw [e8', nI_clamp (show sl < 2 ^ 31 by omega)]
          simp [e]
        · rw [if_neg c2] at e8' ⊢
          rw [e8']; split <;> rfl
    · have e8' : a8 k = hd k := by
        rw [e8]; unfold tp_hdK; rw [if_neg c, if_neg (by rw [tp_klf_0]; simp)]
      unfold tp_hdK
      rw [if_neg c, e8']
      rcases hI.1 k hk with e | ⟨t, ht, e, _⟩
      · rw [e]; split <;> split <;> rfl
      · have hct : (hd k).toNatClampNeg = t := by rw [e]; exact nI_clamp (by omega)
        have hne : t ≠ sl := fun z => c (by rw [e, z])
        have : tp_bdk a8 (fun s => decide (s = sl)) (tp_hit a8 m) m 4 k = tp_klf ob hd sl (m + 1) (hd k).toNatClampNeg := by
          unfold tp_bdk
          rw [e8', hct, hklf t hne, hkt t ht hne]
          simp [hne, ht]
        rw [this]
  · rw [i9 t ht, m6 t ht hne, hklf t hne, tp_klf_0]
    rw [hkt t ht hne]
    cases c : tp_hit hd m t
    · simp
    · simp [ht, hne]
  · rw [i9 sl hs]
    split
    · split
      · exact tp_c4_W m7.1 hm
      · exact tp_W12_0
    · exact m7.1
  · rw [i9 sl hs, hh]
    rcases hc with ⟨q0, q1, q2⟩ | ⟨q0, q2, q3⟩
    · rw [q0, if_pos ⟨hs, rfl⟩, if_pos (by simp), tp_c4_bt m7.1 hm, m7.2 k hk]
      by_cases e : k % 3 = m
      · rw [e, tp_up_at, q2]; simp
      · rw [tp_up_ne ph p' e]; simp [e]
    · rw [q0, if_neg (fun z => absurd z.2 (by simp)), m7.2 k hk]
      by_cases e : k % 3 = m
      · rw [e, tp_up_at, q2]
      · rw [tp_up_ne ph p' e]
  · rw [i11 sl j hs hj, hh]
    rcases hc with ⟨q0, q1, q2⟩ | ⟨q0, q2, q3⟩
    · by_cases e : j = m
      · subst e
        rw [if_pos ⟨hs, q0, fun _ => rfl⟩, tp_up_at, q2]; simp
      · rw [if_neg (fun z => e (z.2.2 (by simp))), tp_up_ne ph p' e]; exact m9 j hj
    · rw [if_neg (fun z => absurd z.2.1 (by rw [q0]; simp)), m9 j hj]
      by_cases e : j = m
      · rw [e, tp_up_at, q2]
      · rw [tp_up_ne ph p' e]
  · rw [i11 t j ht hj, m10 t j ht hne hj]
    split <;> rfl
  · rw [i12 sl j hs hj, hh]
    rcases hc with ⟨q0, q1, q2⟩ | ⟨q0, q2, q3⟩
    · by_cases e : j = m
      · subst e
        rw [tp_up_at, if_pos ⟨hs, q0, by simp, rfl⟩]
        exact ⟨fun z => absurd z (by omega), fun _ => rfl⟩
      · rw [if_neg (fun z => e z.2.2.2), tp_up_ne ph p' e]; exact m11 j hj
    · rw [if_neg (fun z => absurd z.2.1 (by rw [q0]; simp))]
      by_cases e : j = m
      · subst e; rw [tp_up_at, q2]; exact m11 j hj
      · rw [tp_up_ne ph p' e]; exact m11 j hj
  · rw [i12 t j ht hj, if_neg (fun z => hne (by simpa using z.2.2.1))]
    exact m12 t j ht hne hob hj
/-- the same for a machine that had promised: what is in doubt is held again -/
theorem tp_MD_cr6 {ob : Nat → Bool} {hd wk wn nb im : Nat → Int32} {lg : Nat → List tp_Ent} {sl N : Nat} {ph : Nat → Nat} {de m nm : Nat} {xop x n : Int32} {a1 a2 a3 a4 a5 a6 a7 a8 a9 a10 a11 a12 b7 b8 b9 b11 b12 : Nat → Int32} (hs : sl < 4) (hI : tp_Inv ob hd wk wn nb im lg nm) (hN : N = nm + 1) (hm : m < 3)
    (M : tp_MD ob hd wk wn nb im lg sl N ph de 0 xop a1 a2 a3 a4 a5 a6 a7 a8 a9 a10 a11 a12)
    (hh : tp_hit a8 m sl = true) (hp : ph m = 1) (l : List tp_Ent) (hl : l = tp_lgK lg N (wk sl) wn sl ph de m)
    (h7 : ∀ k, k < 12 → b7 k = if ph (k % 3) = 2 ∧ tp_bt (wk sl) k = true then wn (sl * 12 + k) else nb k)
    (I : tp_BI ob (fun s => decide (s = sl)) (tp_hit a8 m) a8 a9 a11 a12 m 4 x n b8 b9 b11 b12) :
    tp_MD ob hd wk wn nb im lg sl N (tp_up ph m 6) de (m + 1) x a1 a2 a3 a4 a5 a6 b7 (tp_hl8 l N sl b8) (upd b9 sl (tp_hl9 l N (b9 sl))) (tp_h10 l N sl a10) (upd b11 (sl * 3 + m) (nI N)) b12 := by
  obtain ⟨m1, m2, m3, m4, m5, m6, m7, m8, m9, m10, m11, m12⟩ := M
  obtain ⟨i0, i8, i9, i11, i12, _⟩ := I
  have hklf : ∀ t, t ≠ sl → tp_klf ob hd sl (m + 1) t = tp_hit hd m t := by
    intro t ht
    unfold tp_klf
    rw [if_neg (by omega), if_neg (by omega)]
    simp [ht]
  have hkt : ∀ t, t < 4 → t ≠ sl → tp_hit a8 m t = tp_hit hd m t := fun t ht hne => tp_hitK hs hm ht hne m5
  have hnm : ¬ (-1 : Int32) = nI sl := fun z => tp_m1 (show sl < 16 by omega) z.symm
  have hlm : l = lg m ++ tp_pr N (wk sl) wn sl m := by
    rw [hl]
    unfold tp_lgK tp_cu
    rw [if_neg (by omega), hp, if_pos (Or.inl rfl)]
  have hold : ∀ e, e ∈ lg m → e.2.1 < N := by
    intro e he
    have := ((hI.2.2.2.2.2.1 m (by omega)).2 e he).2.1
    omega
  have hhw : ∀ k, k < 12 → tp_hw l N k = (decide (k % 3 = m) && tp_bt (wk sl) k) := by
    intro k hk
    rw [hlm, tp_hw_app, tp_pr_hw N (wk sl) wn sl hm hk]
    have : tp_hw (lg m) N k = false := by
      unfold tp_hw
      rw [List.any_eq_false]
      intro e he
      have := hold e he
      have h2 : ¬ e.2.1 = N := by omega
      simp [h2]
    rw [this, Bool.false_or]
  have hkey : ∀ e, e ∈ l → e.2.2.1 < 12 := by
    have := (m3 m (by omega)).2
    rw [← hl] at this
    exact tp_LB_key this
  have hw9 : tp_W12 (b9 sl) := by
    rw [i9 sl hs]
    split
    · split
      · exact tp_c4_W m7.1 hm
      · exact tp_W12_0
    · exact m7.1
  have h9 := tp_hl9_at N l (b9 sl) hw9 hkey
  refine ⟨?_, m2, tp_lgK_cg (fun j hj => ?_) m3, fun k hk => ?_, fun k hk => ?_, fun t ht hne => ?_, ⟨?_, fun k hk => ?_⟩, fun t k ht hk hb => ?_, fun j hj => ?_, fun t j ht hne hj => ?_, fun j hj => ?_, fun t j ht hne hob hj => ?_⟩
  · rw [i0, tp_of_cg (fun t ht => ?_)]
    by_cases e : t = sl
    · rw [e, tp_klf_sl]; simp
    · rw [hklf t e, hkt t ht e]
      simp [e, ht]
  · by_cases e : j = m
    · subst e
      rw [tp_up_at, hp]; simp [tp_cu]
    · rw [tp_up_ne ph 6 e]
  · rw [h7 k hk]
    by_cases e : k % 3 = m
    · rw [e, tp_up_at, hp]; simp
    · rw [tp_up_ne ph 6 e]
  · have e8 := m5 k hk
    rw [tp_hl8_at, hhw k hk, i8 k hk]
    by_cases c : hd k = nI sl
    · have e8' : a8 k = if ph (k % 3) = 0 ∨ ph (k % 3) = 1 ∨ (ph (k % 3) = 6 ∧ tp_bt (wk sl) k = true) then nI sl else -1 := by
        rw [e8]; unfold tp_hdK; rw [if_pos c]
      unfold tp_hdK
      rw [if_pos c]
      by_cases e : k % 3 = m
      · rw [e, tp_up_at]
        rw [e, if_pos (Or.inr (Or.inl hp))] at e8'
        cases cb : tp_bt (wk sl) k
        · rw [if_neg (by simp), if_pos, if_neg (by simp)]
          unfold tp_bdk
          rw [e8', nI_clamp (show sl < 2 ^ 31 by omega), hh]
          simp [e]; omega
        · simp
      · rw [tp_up_ne ph 6 e, if_neg (by simp [e])]
        by_cases c2 : ph (k % 3) = 0 ∨ ph (k % 3) = 1 ∨ (ph (k % 3) = 6 ∧ tp_bt (wk sl) k = true)
        · rw [if_pos c2] at e8' ⊢
          rw [if_neg, e8']
          unfold tp_bdk
          rw [e8', nI_clamp (show sl < 2 ^ 31 by omega)]
          simp [e]
        · rw [if_neg c2] at e8' ⊢
          rw [e8']; split <;> rfl
    · have e8' : a8 k = hd k := by
        rw [e8]; unfold tp_hdK; rw [if_neg c, if_neg (by rw [tp_klf_0]; simp)]
      have cb : tp_bt (wk sl) k = false := by
        cases cb : tp_bt (wk sl) k
        · rfl
        · exact absurd (hI.2.2.1 sl k hs hk cb) c
      rw [cb, Bool.and_false, if_neg (by simp)]
      unfold tp_hdK
      rw [if_neg c, e8']
      rcases hI.1 k hk with e | ⟨t, ht, e, _⟩
      · rw [e]; split <;> split <;> rfl
      · have hct : (hd k).toNatClampNeg = t := by rw [e]; exact nI_clamp (by omega)
        have hne : t ≠ sl := fun z => c (by rw [e, z])
        have : tp_bdk a8 (fun s => decide (s = sl)) (tp_hit a8 m) m 4 k = tp_klf ob hd sl (m + 1) (hd k).toNatClampNeg := by
          unfold tp_bdk
          rw [e8', hct, hklf t hne, hkt t ht hne]
          simp [hne, ht]
        rw [this]
  · rw [pk_un hne, i9 t ht, m6 t ht hne, hklf t hne, tp_klf_0]
    rw [hkt t ht hne]
    cases c : tp_hit hd m t
    · simp
    · simp [ht, hne]
  · rw [pk_us]; exact h9.1
  · rw [pk_us, h9.2 k, hhw k hk, i9 sl hs, hh, if_pos ⟨hs, rfl⟩, if_pos (by simp), tp_c4_bt m7.1 hm, m7.2 k hk]
    by_cases e : k % 3 = m
    · rw [e, tp_up_at]; simp
    · rw [tp_up_ne ph 6 e]; simp [e]
  · by_cases e : t = sl
    · subst e
      rw [tp_h10_at N t k hk l a10 hkey, hlm, tp_apk_app, tp_old_apk hold, tp_pr_apk N (wk t) wn t hm hk]
      split
      · rfl
      · exact m8 t k ht hk hb
    · rw [tp_h10_oth N sl t k hk e l a10 hkey]
      exact m8 t k ht hk hb
  · by_cases e : j = m
    · subst e; rw [pk_us, tp_up_at]; simp
    · rw [pk_un (by omega), i11 sl j hs hj, if_neg (fun z => e (z.2.2 (by simp))), tp_up_ne ph 6 e]; exact m9 j hj
  · rw [pk_un (by omega), i11 t j ht hj, m10 t j ht hne hj]
    split <;> rfl
  · by_cases e : j = m
    · subst e
      rw [tp_up_at]
      exact ⟨fun z => absurd z (by omega), fun z => absurd z (by omega)⟩
    · rw [i12 sl j hs hj, if_neg (fun z => e z.2.2.2), tp_up_ne ph 6 e]; exact m11 j hj
  · rw [i12 t j ht hj, if_neg (fun z => hne (by simpa using z.2.2.1))]
    exact m12 t j ht hne hob hj
/-- the leader -/
theorem tp_MD_ld {ob : Nat → Bool} {hd wk wn nb im : Nat → Int32} {lg : Nat → List tp_Ent} {sl N : Nat} {ph : Nat → Nat} {de nm : Nat} {xop x n : Int32} {a1 a2 a3 a4 a5 a6 a7 a8 a9 a10 a11 a12 b8 b9 b11 : Nat → Int32} (hs : sl < 4) (hI : tp_Inv ob hd wk wn nb im lg nm)
    (M : tp_MD ob hd wk wn nb im lg sl N ph de 0 xop a1 a2 a3 a4 a5 a6 a7 a8 a9 a10 a11 a12)
    (I : tp_BI ob (fun s => decide (s = sl)) (fun s => ob s && !decide (s = sl)) a8 a9 a11 a12 0 4 x n b8 b9 b11 a12) :
    tp_MD ob hd wk wn nb im lg sl N ph de 4 x a1 a2 a3 a4 a5 a6 a7 b8 b9 a10 b11 a12 := by
  obtain ⟨m1, m2, m3, m4, m5, m6, m7, m8, m9, m10, m11, m12⟩ := M
  obtain ⟨i0, i8, i9, i11, _, _⟩ := I
  have hklf : ∀ t, t ≠ sl → tp_klf ob hd sl 4 t = ob t := by
    intro t ht
    unfold tp_klf
    simp [ht]
  refine ⟨?_, m2, m3, m4, fun k hk => ?_, fun t ht hne => ?_, ⟨?_, fun k hk => ?_⟩, m8, fun j hj => ?_, fun t j ht hne hj => ?_, m11, m12⟩
  · rw [i0, tp_of_cg (fun t ht => ?_)]
    by_cases e : t = sl
    · rw [e, tp_klf_sl]; simp
    · rw [hklf t e]
      simp [e, ht]
  · have e8 := m5 k hk
    rw [i8 k hk]
    by_cases c : hd k = nI sl
    · have e8' : a8 k = if ph (k % 3) = 0 ∨ ph (k % 3) = 1 ∨ (ph (k % 3) = 6 ∧ tp_bt (wk sl) k = true) then nI sl else -1 := by
        rw [e8]; unfold tp_hdK; rw [if_pos c]
      unfold tp_hdK
      rw [if_pos c]
      by_cases c2 : ph (k % 3) = 0 ∨ ph (k % 3) = 1 ∨ (ph (k % 3) = 6 ∧ tp_bt (wk sl) k = true)
      · rw [if_pos c2] at e8' ⊢
        rw [if_neg, e8']
        unfold tp_bdk
        rw [e8', nI_clamp (show sl < 2 ^ 31 by omega)]
        simp
      · rw [if_neg c2] at e8' ⊢
        rw [e8']; split <;> rfl
    · have e8' : a8 k = hd k := by
        rw [e8]; unfold tp_hdK; rw [if_neg c, if_neg (by rw [tp_klf_0]; simp)]
      unfold tp_hdK
      rw [if_neg c, e8']
      rcases hI.1 k hk with e | ⟨t, ht, e, hob⟩
      · rw [e]; split <;> split <;> rfl
      · have hct : (hd k).toNatClampNeg = t := by rw [e]; exact nI_clamp (by omega)
        have hne : t ≠ sl := fun z => c (by rw [e, z])
        have : tp_bdk a8 (fun s => decide (s = sl)) (fun s => ob s && !decide (s = sl)) 0 4 k = tp_klf ob hd sl 4 (hd k).toNatClampNeg := by
          unfold tp_bdk
          rw [e8', hct, hklf t hne]
          simp [hne, ht]
        rw [this]
  · rw [i9 t ht, m6 t ht hne, hklf t hne, tp_klf_0]
    cases c : ob t
    · simp [c]
    · simp [ht, hne, c]
  · rw [i9 sl hs, if_neg (fun z => absurd z.2 (by simp))]; exact m7.1
  · rw [i9 sl hs, if_neg (fun z => absurd z.2 (by simp))]; exact m7.2 k hk
  · rw [i11 sl j hs hj, if_neg (fun z => absurd z.2.1 (by simp))]; exact m9 j hj
  · rw [i11 t j ht hj, m10 t j ht hne hj]
    split <;> rfl
/-- the decision is written down -/
theorem tp_MD_dec {ob : Nat → Bool} {hd wk wn nb im : Nat → Int32} {lg : Nat → List tp_Ent} {sl N : Nat} {ph : Nat → Nat} {kl : Nat} {xop : Int32} {a1 a2 a3 a4 a5 a6 a7 a8 a9 a10 a11 a12 b2 b3 b4 b5 b6 : Nat → Int32}
    (M : tp_MD ob hd wk wn nb im lg sl N ph 0 kl xop a1 a2 a3 a4 a5 a6 a7 a8 a9 a10 a11 a12)
    (h : tp_LAs (tp_ul (tp_lgK lg N (wk sl) wn sl ph 0) 3 (tp_lgK lg N (wk sl) wn sl ph 0 3 ++ [(5, N, 0, 0)])) b2 b3 b4 b5 b6) :
    tp_MD ob hd wk wn nb im lg sl N ph 1 kl xop a1 b2 b3 b4 b5 b6 a7 a8 a9 a10 a11 a12 := by
  obtain ⟨m1, m2, m3, mm⟩ := M
  refine ⟨m1, m2, tp_LAs_cg (fun j hj => ?_) h, mm⟩
  unfold tp_ul tp_lgK
  by_cases e : j = 3
  · rw [if_pos e, if_pos e, if_pos rfl]
    simp
  · rw [if_neg e, if_neg e, if_neg e]
end
section
/-! askOrRefuse, remind -/
theorem tp_ask {post : St1 → Prop} {xop xcc : Int32} {a1 a2 a3 a4 a5 a6 a7 a8 a9 a10 a11 a12 a13 a14 a15 a16 : Nat → Int32} {N sl pa tr td st vo he hp fi m : Nat} {ph : Nat → Nat} {s : tp_Ms} (hs : sl < 4) (hm : m < 3) (htr : tr < 8) (hN : 1 ≤ N ∧ N < 1048576)
    (h11 : ∀ j, j < 3 → a11 (sl * 3 + j) = if ph j = 1 ∨ ph j = 6 then nI N else 0)
    (hq : tp_MQ N fi s.1 a13 a14 a15 a16) (hfi : fi ≤ s.1.length) (hlen : s.1.length ≤ 61) (hse : s.2.1 < 100000) (hlo : s.2.2 < 1000)
    (H : ∀ b13 b14 b15 b16, tp_MQ N fi (if ph m = 1 ∨ ph m = 6 then tp_send tr s 7 m 3 else tp_send tr s 5 3 m).1 b13 b14 b15 b16 → post (xop, nI st, nI vo, nI he, nI N, nI N, nI sl, nI pa, nI tr, nI td, nI hp, xcc, nI fi, nI ((if ph m = 1 ∨ ph m = 6 then tp_send tr s 7 m 3 else tp_send tr s 5 3 m).1.length - fi), nI (if ph m = 1 ∨ ph m = 6 then tp_send tr s 7 m 3 else tp_send tr s 5 3 m).2.1, nI (if ph m = 1 ∨ ph m = 6 then tp_send tr s 7 m 3 else tp_send tr s 5 3 m).2.2, a1, a2, a3, a4, a5, a6, a7, a8, a9, a10, a11, a12, b13, b14, b15, b16)) :
    wpX_askOrRefuse post (xop, nI st, nI vo, nI he, nI N, nI N, nI sl, nI pa, nI tr, nI td, nI hp, xcc, nI fi, nI (s.1.length - fi), nI s.2.1, nI s.2.2, a1, a2, a3, a4, a5, a6, a7, a8, a9, a10, a11, a12, a13, a14, a15, a16) (nI m) := by
  refine And.intro (pk_in (sl * 3 + m) 12 (by omega) tp_ix3) ?_
  rw [show (nI sl * 3 + nI m).toNatClampNeg = sl * 3 + m by rw [tp_ix3, nI_clamp (show sl * 3 + m < 2 ^ 31 by omega)], h11 m hm]
  by_cases c : ph m = 1 ∨ ph m = 6
  · rw [if_pos c]
    simp only [if_pos c] at H
    exact br_t rfl (tp_sendW (k := 7) (f := m) (t := 3) hq hfi hlen hse hlo htr (by omega) (by omega) (by omega) H)
  · rw [if_neg c]
    simp only [if_neg c] at H
    have h0 : ¬ (0 : Int32) = nI N := fun z => nI_ne0 (n := N) (by omega) (by omega) z.symm
    exact br_f h0 (tp_sendW (k := 5) (f := 3) (t := m) hq hfi hlen hse hlo htr (by omega) (by omega) (by omega) H)
theorem tp_rm95s {post : St1 → Prop} {J : Int32 → Int32 → Int32 → Int32 → Int32 → Int32 → Int32 → Int32 → Int32 → Int32 → Int32 → Int32 → Int32 → Int32 → Int32 → Int32 → Int32 → (Nat → Int32) → (Nat → Int32) → (Nat → Int32) → (Nat → Int32) → (Nat → Int32) → (Nat → Int32) → (Nat → Int32) → (Nat → Int32) → (Nat → Int32) → (Nat → Int32) → (Nat → Int32) → (Nat → Int32) → (Nat → Int32) → (Nat → Int32) → (Nat → Int32) → (Nat → Int32) → Prop} {xop xcc : Int32} {a1 a2 a3 a4 a5 a6 a7 a8 a9 a10 a11 a12 a13 a14 a15 a16 : Nat → Int32} {N sl pa tr td st vo he hp fi m : Nat} {s : tp_Ms} {x3 : Int32} (hm : m < 3) (hpa : pa < 8) (hst : st < 4) (h : pa.testBit m = false ∨ st ≠ 3 ∨ ¬ x3 = 0)
    (H : J (nI (m + 1)) xop (nI st) (nI vo) (nI he) (nI N) (nI N) (nI sl) (nI pa) (nI tr) (nI td) (nI hp) xcc (nI fi) (nI (s.1.length - fi)) (nI s.2.1) (nI s.2.2) a1 a2 a3 a4 a5 a6 a7 a8 a9 a10 a11 a12 a13 a14 a15 a16) : wX_remind_95 post J (nI m) x3 xop (nI st) (nI vo) (nI he) (nI N) (nI N) (nI sl) (nI pa) (nI tr) (nI td) (nI hp) xcc (nI fi) (nI (s.1.length - fi)) (nI s.2.1) (nI s.2.2) a1 a2 a3 a4 a5 a6 a7 a8 a9 a10 a11 a12 a13 a14 a15 a16 := by
  unfold wX_remind_95
  refine tp_isPartN hm hpa (fun c => br_t rfl (nm_r (nI_1 m) H)) (fun c => br_f (by decide) ?_)
  refine pk_eq st 3 (fun z => br_c (fun q => absurd q ?_) (fun _ => nm_r (nI_1 m) H)) (fun _ => nm_r (nI_1 m) H)
  rcases h with h | h | h
  · rw [c] at h; exact absurd h (by simp)
  · exact absurd z h
  · exact h
theorem tp_rm68s {post : St1 → Prop} {J : Int32 → Int32 → Int32 → Int32 → Int32 → Int32 → Int32 → Int32 → Int32 → Int32 → Int32 → Int32 → Int32 → Int32 → Int32 → Int32 → Int32 → (Nat → Int32) → (Nat → Int32) → (Nat → Int32) → (Nat → Int32) → (Nat → Int32) → (Nat → Int32) → (Nat → Int32) → (Nat → Int32) → (Nat → Int32) → (Nat → Int32) → (Nat → Int32) → (Nat → Int32) → (Nat → Int32) → (Nat → Int32) → (Nat → Int32) → (Nat → Int32) → Prop} {xop xcc : Int32} {a1 a2 a3 a4 a5 a6 a7 a8 a9 a10 a11 a12 a13 a14 a15 a16 : Nat → Int32} {N sl pa tr td st vo he hp fi m : Nat} {s : tp_Ms} {x3 : Int32} (hm : m < 3) (hpa : pa < 8) (hst : st < 4) (h : pa.testBit m = false ∨ st ≠ 2 ∨ ¬ x3 = 0)
    (H : wX_remind_95 post J (nI m) x3 xop (nI st) (nI vo) (nI he) (nI N) (nI N) (nI sl) (nI pa) (nI tr) (nI td) (nI hp) xcc (nI fi) (nI (s.1.length - fi)) (nI s.2.1) (nI s.2.2) a1 a2 a3 a4 a5 a6 a7 a8 a9 a10 a11 a12 a13 a14 a15 a16) : wX_remind_68 post J (nI m) x3 xop (nI st) (nI vo) (nI he) (nI N) (nI N) (nI sl) (nI pa) (nI tr) (nI td) (nI hp) xcc (nI fi) (nI (s.1.length - fi)) (nI s.2.1) (nI s.2.2) a1 a2 a3 a4 a5 a6 a7 a8 a9 a10 a11 a12 a13 a14 a15 a16 := by
  unfold wX_remind_68
  refine tp_isPartN hm hpa (fun c => br_t rfl H) (fun c => br_f (by decide) ?_)
  refine pk_eq st 2 (fun z => br_c (fun q => absurd q ?_) (fun _ => H)) (fun _ => H)
  rcases h with h | h | h
  · rw [c] at h; exact absurd h (by simp)
  · exact absurd z h
  · exact h
theorem tp_rm40 {post : St1 → Prop} {J : Int32 → Int32 → Int32 → Int32 → Int32 → Int32 → Int32 → Int32 → Int32 → Int32 → Int32 → Int32 → Int32 → Int32 → Int32 → Int32 → Int32 → (Nat → Int32) → (Nat → Int32) → (Nat → Int32) → (Nat → Int32) → (Nat → Int32) → (Nat → Int32) → (Nat → Int32) → (Nat → Int32) → (Nat → Int32) → (Nat → Int32) → (Nat → Int32) → (Nat → Int32) → (Nat → Int32) → (Nat → Int32) → (Nat → Int32) → (Nat → Int32) → Prop} {xop xcc : Int32} {a1 a2 a3 a4 a5 a6 a7 a8 a9 a10 a11 a12 a13 a14 a15 a16 : Nat → Int32} {N sl pa tr td st vo he hp fi m : Nat} {ph : Nat → Nat} {s : tp_Ms} {x2 x3 : Int32} (hs : sl < 4) (hm : m < 3) (htr : tr < 8) (hN : 1 ≤ N ∧ N < 1048576) (hpa : pa < 8) (hst : st < 4)
    (hx2 : x2 = 0 ↔ vo.testBit m = false) (hx3 : x3 = 0 ↔ he.testBit m = false)
    (h11 : ∀ j, j < 3 → a11 (sl * 3 + j) = if ph j = 1 ∨ ph j = 6 then nI N else 0)
    (hq : tp_MQ N fi s.1 a13 a14 a15 a16) (hfi : fi ≤ s.1.length) (hlen : s.1.length ≤ 61) (hse : s.2.1 < 100000) (hlo : s.2.2 < 1000)
    (H : ∀ b13 b14 b15 b16, tp_MQ N fi (tp_rm1 pa tr st vo he ph s m).1 b13 b14 b15 b16 → J (nI (m + 1)) xop (nI st) (nI vo) (nI he) (nI N) (nI N) (nI sl) (nI pa) (nI tr) (nI td) (nI hp) xcc (nI fi) (nI ((tp_rm1 pa tr st vo he ph s m).1.length - fi)) (nI (tp_rm1 pa tr st vo he ph s m).2.1) (nI (tp_rm1 pa tr st vo he ph s m).2.2) a1 a2 a3 a4 a5 a6 a7 a8 a9 a10 a11 a12 b13 b14 b15 b16) :
    wX_remind_40 post J (nI m) x2 x3 xop (nI st) (nI vo) (nI he) (nI N) (nI N) (nI sl) (nI pa) (nI tr) (nI td) (nI hp) xcc (nI fi) (nI (s.1.length - fi)) (nI s.2.1) (nI s.2.2) a1 a2 a3 a4 a5 a6 a7 a8 a9 a10 a11 a12 a13 a14 a15 a16 := by
  unfold wX_remind_40
  unfold tp_rm1 at H
  refine tp_isPartN hm hpa (fun c => br_t rfl ?_) (fun c => br_f (by decide) ?_)
  · simp only [if_neg (show ¬ pa.testBit m = true by rw [c]; simp)] at H
    exact tp_rm68s hm hpa hst (Or.inl c) (tp_rm95s hm hpa hst (Or.inl c) (H _ _ _ _ hq))
  · simp only [if_pos c] at H
    refine pk_eq st 1 (fun z => ?_) (fun z => ?_)
    · simp only [if_pos z] at H
      refine br_c (fun q => ?_) (fun q => ?_)
      · simp only [if_neg (show ¬ vo.testBit m = true by rw [hx2.mp q]; simp)] at H
        refine tp_sendW (k := 1) (f := 3) (t := m) hq hfi hlen hse hlo htr (by omega) (by omega) (by omega) (fun b13 b14 b15 b16 hq' => ?_)
        exact tp_rm68s hm hpa hst (Or.inr (Or.inl (by omega))) (tp_rm95s hm hpa hst (Or.inr (Or.inl (by omega))) (H _ _ _ _ hq'))
      · have hv : vo.testBit m = true := by
          cases e : vo.testBit m
          · exact absurd (hx2.mpr e) q
          · rfl
        simp only [if_pos hv] at H
        exact tp_rm68s hm hpa hst (Or.inr (Or.inl (by omega))) (tp_rm95s hm hpa hst (Or.inr (Or.inl (by omega))) (H _ _ _ _ hq))
    · simp only [if_neg z] at H
      by_cases z2 : st = 2
      · simp only [if_pos z2] at H
        cases e : he.testBit m
        · simp only [if_neg (show ¬ he.testBit m = true by rw [e]; simp)] at H
          unfold wX_remind_68
          refine tp_isPartN hm hpa (fun c' => absurd c' (by rw [c]; simp)) (fun _ => br_f (by decide) ?_)
          refine pk_eq st 2 (fun _ => br_t (hx3.mpr e) ?_) (fun z' => absurd z2 z')
          refine tp_sendW (k := 4) (f := 3) (t := m) hq hfi hlen hse hlo htr (by omega) (by omega) (by omega) (fun b13 b14 b15 b16 hq' => ?_)
          exact tp_rm95s hm hpa hst (Or.inr (Or.inl (by omega))) (H _ _ _ _ hq')
        · simp only [if_pos e] at H
          exact tp_rm68s hm hpa hst (Or.inr (Or.inr (fun q => absurd (hx3.mp q) (by rw [e]; simp)))) (tp_rm95s hm hpa hst (Or.inr (Or.inl (by omega))) (H _ _ _ _ hq))
      · simp only [if_neg z2] at H
        refine tp_rm68s hm hpa hst (Or.inr (Or.inl z2)) ?_
        by_cases z3 : st = 3
        · simp only [if_pos z3] at H
          cases e : he.testBit m
          · simp only [if_neg (show ¬ he.testBit m = true by rw [e]; simp)] at H
            unfold wX_remind_95
            refine tp_isPartN hm hpa (fun c' => absurd c' (by rw [c]; simp)) (fun _ => br_f (by decide) ?_)
            refine pk_eq st 3 (fun _ => br_t (hx3.mpr e) ?_) (fun z' => absurd z3 z')
            refine tp_ask hs hm htr hN h11 hq hfi hlen hse hlo (fun b13 b14 b15 b16 hq' => ?_)
            exact nm_r (nI_1 m) (H _ _ _ _ hq')
          · simp only [if_pos e] at H
            exact tp_rm95s hm hpa hst (Or.inr (Or.inr (fun q => absurd (hx3.mp q) (by rw [e]; simp)))) (H _ _ _ _ hq)
        · simp only [if_neg z3] at H
          exact tp_rm95s hm hpa hst (Or.inr (Or.inl z3)) (H _ _ _ _ hq)
theorem tp_rm1_b (pa tr st vo he : Nat) (ph : Nat → Nat) (s : tp_Ms) (m : Nat) : s.1.length ≤ (tp_rm1 pa tr st vo he ph s m).1.length ∧ (tp_rm1 pa tr st vo he ph s m).1.length ≤ s.1.length + 2 ∧ (tp_rm1 pa tr st vo he ph s m).2.1 ≤ s.2.1 + 1 ∧ (tp_rm1 pa tr st vo he ph s m).2.2 ≤ s.2.2 + 1 := by
  have h0 : s.1.length ≤ s.1.length ∧ s.1.length ≤ s.1.length + 2 ∧ s.2.1 ≤ s.2.1 + 1 ∧ s.2.2 ≤ s.2.2 + 1 := by omega
  have h1 : ∀ k f t, s.1.length ≤ (tp_send tr s k f t).1.length ∧ (tp_send tr s k f t).1.length ≤ s.1.length + 2 ∧ (tp_send tr s k f t).2.1 ≤ s.2.1 + 1 ∧ (tp_send tr s k f t).2.2 ≤ s.2.2 + 1 := by
    intro k f t
    have := tp_send_b tr s k f t
    omega
  unfold tp_rm1
  repeat' split
  all_goals first | exact h0 | exact h1 _ _ _
theorem tp_rm_step {post : St1 → Prop} {xop xcc : Int32} {a1 a2 a3 a4 a5 a6 a7 a8 a9 a10 a11 a12 a13 a14 a15 a16 : Nat → Int32} {N sl pa tr td st vo he hp fi m n : Nat} {ph : Nat → Nat} {s : tp_Ms} (hs : sl < 4) (hm : m < 3) (htr : tr < 8) (hN : 1 ≤ N ∧ N < 1048576) (hpa : pa < 8) (hst : st < 4) (hvo : vo < 8) (hhe : he < 8)
    (h11 : ∀ j, j < 3 → a11 (sl * 3 + j) = if ph j = 1 ∨ ph j = 6 then nI N else 0)
    (hq : tp_MQ N fi s.1 a13 a14 a15 a16) (hfi : fi ≤ s.1.length) (hlen : s.1.length ≤ 61) (hse : s.2.1 < 100000) (hlo : s.2.2 < 1000)
    (H : ∀ b13 b14 b15 b16, tp_MQ N fi (tp_rm1 pa tr st vo he ph s m).1 b13 b14 b15 b16 → wX_remind_2 post n (nI (m + 1)) xop (nI st) (nI vo) (nI he) (nI N) (nI N) (nI sl) (nI pa) (nI tr) (nI td) (nI hp) xcc (nI fi) (nI ((tp_rm1 pa tr st vo he ph s m).1.length - fi)) (nI (tp_rm1 pa tr st vo he ph s m).2.1) (nI (tp_rm1 pa tr st vo he ph s m).2.2) a1 a2 a3 a4 a5 a6 a7 a8 a9 a10 a11 a12 b13 b14 b15 b16) :
    wX_remind_2 post (n + 1) (nI m) xop (nI st) (nI vo) (nI he) (nI N) (nI N) (nI sl) (nI pa) (nI tr) (nI td) (nI hp) xcc (nI fi) (nI (s.1.length - fi)) (nI s.2.1) (nI s.2.2) a1 a2 a3 a4 a5 a6 a7 a8 a9 a10 a11 a12 a13 a14 a15 a16 := by
  refine pk_le 3 m (fun z => absurd z (by omega)) (fun _ => ?_)
  refine tp_n8b hvo hm (fun c => ?_) (fun c => ?_)
  · unfold wX_remind_23
    refine tp_n8b hhe hm (fun c2 => ?_) (fun c2 => ?_)
    · exact tp_rm40 hs hm htr hN hpa hst ⟨fun _ => c, fun _ => rfl⟩ ⟨fun _ => c2, fun _ => rfl⟩ h11 hq hfi hlen hse hlo H
    · exact tp_rm40 hs hm htr hN hpa hst ⟨fun _ => c, fun _ => rfl⟩ ⟨fun z => absurd z (by decide), fun z => absurd z (by rw [c2]; simp)⟩ h11 hq hfi hlen hse hlo H
  · unfold wX_remind_23
    refine tp_n8b hhe hm (fun c2 => ?_) (fun c2 => ?_)
    · exact tp_rm40 hs hm htr hN hpa hst ⟨fun z => absurd z (by decide), fun z => absurd z (by rw [c]; simp)⟩ ⟨fun _ => c2, fun _ => rfl⟩ h11 hq hfi hlen hse hlo H
    · exact tp_rm40 hs hm htr hN hpa hst ⟨fun z => absurd z (by decide), fun z => absurd z (by rw [c]; simp)⟩ ⟨fun z => absurd z (by decide), fun z => absurd z (by rw [c2]; simp)⟩ h11 hq hfi hlen hse hlo H
theorem tp_remind {post : St1 → Prop} {xop xcc : Int32} {a1 a2 a3 a4 a5 a6 a7 a8 a9 a10 a11 a12 a13 a14 a15 a16 : Nat → Int32} {N sl pa tr td st vo he hp fi : Nat} {ph : Nat → Nat} {s : tp_Ms} (hs : sl < 4) (htr : tr < 8) (hN : 1 ≤ N ∧ N < 1048576) (hpa : pa < 8) (hst : st < 4) (hvo : vo < 8) (hhe : he < 8)
    (h11 : ∀ j, j < 3 → a11 (sl * 3 + j) = if ph j = 1 ∨ ph j = 6 then nI N else 0)
    (hq : tp_MQ N fi s.1 a13 a14 a15 a16) (hfi : fi ≤ s.1.length) (hlen : s.1.length ≤ 55) (hse : s.2.1 < 10000) (hlo : s.2.2 < 900)
    (H : ∀ b13 b14 b15 b16, tp_MQ N fi (tp_rmd pa tr st vo he ph s).1 b13 b14 b15 b16 → fi ≤ (tp_rmd pa tr st vo he ph s).1.length → post (xop, nI st, nI vo, nI he, nI N, nI N, nI sl, nI pa, nI tr, nI td, nI hp, xcc, nI fi, nI ((tp_rmd pa tr st vo he ph s).1.length - fi), nI (tp_rmd pa tr st vo he ph s).2.1, nI (tp_rmd pa tr st vo he ph s).2.2, a1, a2, a3, a4, a5, a6, a7, a8, a9, a10, a11, a12, b13, b14, b15, b16)) :
    wpX_remind post (xop, nI st, nI vo, nI he, nI N, nI N, nI sl, nI pa, nI tr, nI td, nI hp, xcc, nI fi, nI (s.1.length - fi), nI s.2.1, nI s.2.2, a1, a2, a3, a4, a5, a6, a7, a8, a9, a10, a11, a12, a13, a14, a15, a16) := by
  show ∃ n, wX_remind_2 post n 0 xop (nI st) (nI vo) (nI he) (nI N) (nI N) (nI sl) (nI pa) (nI tr) (nI td) (nI hp) xcc (nI fi) (nI (s.1.length - fi)) (nI s.2.1) (nI s.2.2) a1 a2 a3 a4 a5 a6 a7 a8 a9 a10 a11 a12 a13 a14 a15 a16
  refine ⟨4, ?_⟩
  have q0 := tp_rm1_b pa tr st vo he ph s 0
  have q1 := tp_rm1_b pa tr st vo he ph (tp_rm1 pa tr st vo he ph s 0) 1
  have q2 := tp_rm1_b pa tr st vo he ph (tp_rm1 pa tr st vo he ph (tp_rm1 pa tr st vo he ph s 0) 1) 2
  refine tp_rm_step (m := 0) hs (by omega) htr hN hpa hst hvo hhe h11 hq hfi (by omega) (by omega) (by omega) (fun b13 b14 b15 b16 h1 => ?_)
  refine tp_rm_step (m := 1) hs (by omega) htr hN hpa hst hvo hhe h11 h1 (by omega) (by omega) (by omega) (by omega) (fun c13 c14 c15 c16 h2 => ?_)
  refine tp_rm_step (m := 2) hs (by omega) htr hN hpa hst hvo hhe h11 h2 (by omega) (by omega) (by omega) (by omega) (fun d13 d14 d15 d16 h3 => ?_)
  refine pk_le 3 3 (fun _ => H _ _ _ _ h3 ?_) (fun z => absurd z (by omega))
  unfold tp_rmd
  omega
theorem tp_rmd_b (pa tr st vo he : Nat) (ph : Nat → Nat) (s : tp_Ms) : s.1.length ≤ (tp_rmd pa tr st vo he ph s).1.length := by
  have q0 := tp_rm1_b pa tr st vo he ph s 0
  have q1 := tp_rm1_b pa tr st vo he ph (tp_rm1 pa tr st vo he ph s 0) 1
  have q2 := tp_rm1_b pa tr st vo he ph (tp_rm1 pa tr st vo he ph (tp_rm1 pa tr st vo he ph s 0) 1) 2
  unfold tp_rmd
  omega
end
section
/-! a commit under way: what machines and the leader hear -/
def tp_G (ob : Nat → Bool) (hd wk wn nb im : Nat → Int32) (lg : Nat → List tp_Ent) (sl N : Nat) (nm pa tr td : Nat) : Prop :=
  sl < 4 ∧ ob sl = true ∧ tp_Inv ob hd wk wn nb im lg nm ∧ N = nm + 1 ∧ N < 1048576 ∧ pa < 8 ∧ tr < 8 ∧ td < 3 ∧ ∀ m, m < 3 → pa.testBit m = tp_hit hd m sl
def tp_CM (ob : Nat → Bool) (hd wk wn nb im : Nat → Int32) (lg : Nat → List tp_Ent) (sl N : Nat) (pa tr td : Nat) (cc : Int32) (C : tp_Ct) (u : St1) : Prop := match C, u with
  | (st, vo, he, hp, ph, de, kl, fi, s), (xop, xst, xvo, xhe, xns, xnm, xsl, xpa, xtr, xtd, xhp, xcc, xfi, xwa, xse, xlo, a1, a2, a3, a4, a5, a6, a7, a8, a9, a10, a11, a12, a13, a14, a15, a16) => xst = nI st ∧ xvo = nI vo ∧ xhe = nI he ∧ xns = nI N ∧ xnm = nI N ∧ xsl = nI sl ∧ xpa = nI pa ∧ xtr = nI tr ∧ xtd = nI td ∧ xhp = nI hp ∧ xcc = cc ∧ xfi = nI fi ∧ xwa = nI (s.1.length - fi) ∧ xse = nI s.2.1 ∧ xlo = nI s.2.2 ∧ fi ≤ s.1.length ∧ tp_MD ob hd wk wn nb im lg sl N ph de kl xop a1 a2 a3 a4 a5 a6 a7 a8 a9 a10 a11 a12 ∧ tp_MQ N fi s.1 a13 a14 a15 a16
theorem tp_CM_mk {xop xcc : Int32} {a1 a2 a3 a4 a5 a6 a7 a8 a9 a10 a11 a12 a13 a14 a15 a16 : Nat → Int32} {ob : Nat → Bool} {hd wk wn nb im : Nat → Int32} {lg : Nat → List tp_Ent} {sl N : Nat} {pa tr td st vo he hp de kl fi : Nat} {ph : Nat → Nat} {s : tp_Ms}  (hfi : fi ≤ s.1.length) (M : tp_MD ob hd wk wn nb im lg sl N ph de kl xop a1 a2 a3 a4 a5 a6 a7 a8 a9 a10 a11 a12) (hq : tp_MQ N fi s.1 a13 a14 a15 a16) : tp_CM ob hd wk wn nb im lg sl N pa tr td xcc (st, vo, he, hp, ph, de, kl, fi, s) (xop, nI st, nI vo, nI he, nI N, nI N, nI sl, nI pa, nI tr, nI td, nI hp, xcc, nI fi, nI (s.1.length - fi), nI s.2.1, nI s.2.2, a1, a2, a3, a4, a5, a6, a7, a8, a9, a10, a11, a12, a13, a14, a15, a16) :=
  ⟨rfl, rfl, rfl, rfl, rfl, rfl, rfl, rfl, rfl, rfl, rfl, rfl, rfl, rfl, rfl, hfi, M, hq⟩
theorem tp_CM_el {P : St1 → Prop} {u : St1} {ob : Nat → Bool} {hd wk wn nb im : Nat → Int32} {lg : Nat → List tp_Ent} {sl N : Nat} {pa tr td st vo he hp de kl fi : Nat} {ph : Nat → Nat} {s : tp_Ms} {xcc : Int32} (h : tp_CM ob hd wk wn nb im lg sl N pa tr td xcc (st, vo, he, hp, ph, de, kl, fi, s) u)
    (H : ∀ (xop : Int32) (a1 a2 a3 a4 a5 a6 a7 a8 a9 a10 a11 a12 a13 a14 a15 a16 : Nat → Int32), fi ≤ s.1.length → tp_MD ob hd wk wn nb im lg sl N ph de kl xop a1 a2 a3 a4 a5 a6 a7 a8 a9 a10 a11 a12 → tp_MQ N fi s.1 a13 a14 a15 a16 → P (xop, nI st, nI vo, nI he, nI N, nI N, nI sl, nI pa, nI tr, nI td, nI hp, xcc, nI fi, nI (s.1.length - fi), nI s.2.1, nI s.2.2, a1, a2, a3, a4, a5, a6, a7, a8, a9, a10, a11, a12, a13, a14, a15, a16)) : P u := by
  obtain ⟨xop, xst, xvo, xhe, xns, xnm, xsl, xpa, xtr, xtd, xhp, xcc', xfi, xwa, xse, xlo, a1, a2, a3, a4, a5, a6, a7, a8, a9, a10, a11, a12, a13, a14, a15, a16⟩ := u
  obtain ⟨e1, e2, e3, e4, e5, e6, e7, e8, e9, e10, e11, e12, e13, e14, e15, hfi, M, hq⟩ := h
  subst e1 e2 e3 e4 e5 e6 e7 e8 e9 e10 e11 e12 e13 e14 e15
  exact H xop a1 a2 a3 a4 a5 a6 a7 a8 a9 a10 a11 a12 a13 a14 a15 a16 hfi M hq
theorem tp_up_id (p : Nat → Nat) (m : Nat) : tp_up p m (p m) = p := by
  funext j
  unfold tp_up
  by_cases e : j = m <;> simp [e]
theorem tp_hit_no {a : Nat → Int32} {m t : Nat} (hm : m < 3) (h : ∀ k, k < 12 → k % 3 = m → a k ≠ nI t) : tp_hit a m t = false := by
  cases c : tp_hit a m t
  · rfl
  · obtain ⟨k, hk, hkm, e⟩ := (tp_hit_iff hm).mp c
    exact absurd e (h k hk hkm)
theorem tp_crashC {post : Int32 → St1 → Prop} {xop xcc : Int32} {a1 a2 a3 a4 a5 a6 a7 a8 a9 a10 a11 a12 a13 a14 a15 a16 : Nat → Int32} {ob : Nat → Bool} {hd wk wn nb im : Nat → Int32} {lg : Nat → List tp_Ent} {sl N : Nat} {nm pa tr td st vo he hp de kl fi m : Nat} {ph : Nat → Nat} {s : tp_Ms} {C' : tp_Ct} (hG : tp_G ob hd wk wn nb im lg sl N nm pa tr td) (M : tp_MD ob hd wk wn nb im lg sl N ph de kl xop a1 a2 a3 a4 a5 a6 a7 a8 a9 a10 a11 a12) (hq : tp_MQ N fi s.1 a13 a14 a15 a16) (hfi : fi ≤ s.1.length) (hb : s.1.length ≤ 55 ∧ s.2.1 < 10000 ∧ s.2.2 < 900) (hst : 1 ≤ st ∧ st < 4) (hvo : vo < 8) (hhe : he < 8) (hhp : hp ≤ 1) (hde : de ≤ 1) (hm : m < 3) (hC : tp_cCr pa m (st, vo, he, hp, ph, de, kl, fi, s) = some C')
    (H : ∀ n u', tp_CM ob hd wk wn nb im lg sl N pa tr td xcc C' u' → post n u') : wpX_breakDown post (xop, nI st, nI vo, nI he, nI N, nI N, nI sl, nI pa, nI tr, nI td, nI hp, xcc, nI fi, nI (s.1.length - fi), nI s.2.1, nI s.2.2, a1, a2, a3, a4, a5, a6, a7, a8, a9, a10, a11, a12, a13, a14, a15, a16) (nI m) := by
  obtain ⟨hs, hob, hI, hN, hN2, hpa, htr, htd, hpt⟩ := hG
  unfold tp_cCr at hC
  dsimp only at hC
  by_cases c : kl = 0 ∧ ((pa.testBit m = true ∧ (ph m = 0 ∨ ph m = 1 ∨ ph m = 2)) ∨ (pa.testBit m = false ∧ ph m = 0))
  · rw [if_pos c] at hC
    obtain ⟨c0, c1⟩ := c
    subst c0
    have hC' := Option.some.inj hC
    subst hC'
    have hL := M.2.2.1 m (by omega)
    have hop : xop = nI (tp_of ob) := by
      rw [M.1, tp_of_cg (fun t _ => ?_)]
      rw [tp_klf_0]; simp
    have h7 := tp_cb7 (a7 := a7) (ph := ph) (de := de) (N := N) (sl := sl) hI hN hm M.2.1 M.2.2.2.1
    have hopn := tp_lgK_op (N := N) (sl := sl) (ph := ph) (de := de) hI hm
    have hsl8 : ∀ k, k < 12 → k % 3 = m → hd k = nI sl → (ph m = 0 ∨ ph m = 1) → a8 k = nI sl := by
      intro k hk hkm e hp
      rw [M.2.2.2.2.1 k hk]
      unfold tp_hdK
      rw [if_pos e, hkm, if_pos (by omega)]
    have hno8 : (∀ k, k < 12 → k % 3 = m → hd k = nI sl → ph m = 2) → ∀ k, k < 12 → k % 3 = m → a8 k ≠ nI sl := by
      intro h k hk hkm z
      rw [M.2.2.2.2.1 k hk] at z
      unfold tp_hdK at z
      by_cases e : hd k = nI sl
      · rw [if_pos e, hkm, h k hk hkm e, if_neg (by omega)] at z
        exact tp_m1 (show sl < 16 by omega) z.symm
      · rw [if_neg e, if_neg (by rw [tp_klf_0]; simp)] at z
        exact e z
    refine tp_breakDown (sl := sl) (f := ob) (sf := fun t => decide (t = sl)) (l := tp_lgK lg N (wk sl) wn sl ph de m) (tp_MD_V hI hs M) (tp_MD_W hI hs M) hop hm ?_ hL.1 hL.2 (fun _ => ⟨hs, rfl⟩) ?_ ?_
    · intro t ht
      constructor
      · intro z
        have z' : t = sl := by simpa using z
        exact ⟨nI_ne0 (by omega) (by omega), by rw [z']⟩
      · rintro ⟨_, z⟩
        have := tp_ni (show t < 2 ^ 31 by omega) (by omega) z
        simpa using this
    · intro ho n x b8 b9 b11 b12 I
      rw [hopn] at ho
      have hp1 : ¬ (ph m = 1 ∨ ph m = 6) := fun z => by rw [if_pos z] at ho; omega
      refine H n _ (tp_CM_mk hfi ?_ hq)
      rcases c1 with ⟨cp, c2⟩ | ⟨cp, c2⟩
      · rw [if_pos cp]
        rw [hpt m hm] at cp
        obtain ⟨k, hk, hkm, e⟩ := (tp_hit_iff hm).mp cp
        rcases c2 with c2 | c2 | c2
        · rw [if_pos c2]
          have hh : tp_hit a8 m sl = true := (tp_hit_iff hm).mpr ⟨k, hk, hkm, hsl8 k hk hkm e (Or.inl c2)⟩
          exact tp_MD_cr hs hI hm M hh (Or.inl ⟨rfl, c2, rfl⟩) h7 I
        · exact absurd (Or.inl c2) hp1
        · rw [if_neg (show ¬ ph m = 0 by omega), if_neg (show ¬ ph m = 1 by omega)]
          have hno := hno8 (fun _ _ _ _ => c2)
          exact tp_MD_cr hs hI hm M (tp_hit_no hm hno) (Or.inr ⟨rfl, c2.symm, hno⟩) h7 I
      · rw [if_neg (by rw [cp]; simp)]
        have hno := hno8 (fun k hk hkm e => by
          rw [hpt m hm] at cp
          rw [(tp_hit_iff hm).mpr ⟨k, hk, hkm, e⟩] at cp
          exact absurd cp (by simp))
        have := tp_MD_cr (p' := ph m) hs hI hm M (tp_hit_no hm hno) (Or.inr ⟨rfl, rfl, hno⟩) h7 I
        rw [tp_up_id] at this
        exact this
    · intro ho n x b8 b9 b11 b12 I
      rw [hopn] at ho
      have hp1 : ph m = 1 ∨ ph m = 6 := by
        by_cases z : ph m = 1 ∨ ph m = 6
        · exact z
        · rw [if_neg z] at ho; exact absurd rfl ho
      rw [hopn, if_pos hp1]
      refine H n _ (tp_CM_mk hfi ?_ hq)
      rcases c1 with ⟨cp, c2⟩ | ⟨cp, c2⟩
      · rw [if_pos cp]
        have c3 : ph m = 1 := by omega
        rw [if_neg (show ¬ ph m = 0 by omega), if_pos c3]
        rw [hpt m hm] at cp
        obtain ⟨k, hk, hkm, e⟩ := (tp_hit_iff hm).mp cp
        have hh : tp_hit a8 m sl = true := (tp_hit_iff hm).mpr ⟨k, hk, hkm, hsl8 k hk hkm e (Or.inr c3)⟩
        exact tp_MD_cr6 hs hI hN hm M hh c3 _ rfl h7 I
      · omega
  · rw [if_neg c] at hC
    exact absurd hC (by simp)
theorem tp_has5 {ob : Nat → Bool} {hd wk wn nb im : Nat → Int32} {lg : Nat → List tp_Ent} {sl N : Nat} {nm de : Nat} {ph : Nat → Nat} (hI : tp_Inv ob hd wk wn nb im lg nm) (hN : N = nm + 1) : tp_has (tp_lgK lg N (wk sl) wn sl ph de 3) 5 N = decide (de = 1) := by
  unfold tp_lgK
  rw [if_pos rfl]
  unfold tp_has
  rw [List.any_append]
  have : (lg 3).any (fun e => decide (e.1 = 5) && decide (e.2.1 = N)) = false := by
    rw [List.any_eq_false]
    intro e he
    have := ((hI.2.2.2.2.2.1 3 (by omega)).2 e he).2.1
    have h2 : ¬ e.2.1 = N := by omega
    simp [h2]
  rw [this, Bool.false_or]
  by_cases c : de = 1
  · rw [if_pos c]; simp [c]
  · rw [if_neg c]; simp [c]
theorem tp_leadC {post : Int32 → St1 → Prop} {xop xcc : Int32} {a1 a2 a3 a4 a5 a6 a7 a8 a9 a10 a11 a12 a13 a14 a15 a16 : Nat → Int32} {ob : Nat → Bool} {hd wk wn nb im : Nat → Int32} {lg : Nat → List tp_Ent} {sl N : Nat} {nm pa tr td st vo he hp de kl fi : Nat} {ph : Nat → Nat} {s : tp_Ms} {C' : tp_Ct} (hG : tp_G ob hd wk wn nb im lg sl N nm pa tr td) (M : tp_MD ob hd wk wn nb im lg sl N ph de kl xop a1 a2 a3 a4 a5 a6 a7 a8 a9 a10 a11 a12) (hq : tp_MQ N fi s.1 a13 a14 a15 a16) (hfi : fi ≤ s.1.length) (hb : s.1.length ≤ 55 ∧ s.2.1 < 10000 ∧ s.2.2 < 900) (hst : 1 ≤ st ∧ st < 4) (hvo : vo < 8) (hhe : he < 8) (hhp : hp ≤ 1) (hde : de ≤ 1) (hC : tp_cLd (st, vo, he, hp, ph, de, kl, fi, s) = some C')
    (H : ∀ n u', tp_CM ob hd wk wn nb im lg sl N pa tr td xcc C' u' → post n u') : wpX_breakLeader post (xop, nI st, nI vo, nI he, nI N, nI N, nI sl, nI pa, nI tr, nI td, nI hp, xcc, nI fi, nI (s.1.length - fi), nI s.2.1, nI s.2.2, a1, a2, a3, a4, a5, a6, a7, a8, a9, a10, a11, a12, a13, a14, a15, a16) := by
  obtain ⟨hs, hob, hI, hN, hN2, hpa, htr, htd, hpt⟩ := hG
  unfold tp_cLd at hC
  dsimp only at hC
  by_cases c : kl = 0
  · rw [if_pos c] at hC
    subst c
    have hC' := Option.some.inj hC
    subst hC'
    have hL := M.2.2.1 3 (by omega)
    have hop : xop = nI (tp_of ob) := by
      rw [M.1, tp_of_cg (fun t _ => ?_)]
      rw [tp_klf_0]; simp
    have h5 := tp_has5 (sl := sl) (N := N) (ph := ph) (de := de) hI hN
    have hn0 : ¬ nI st = 0 := nI_ne0 (by omega) (by omega)
    refine tp_breakLeader (N := N) (f := ob) (sf := fun t => decide (t = sl)) (l := tp_lgK lg N (wk sl) wn sl ph de 3) (tp_MD_V hI hs M) (tp_MD_W hI hs M) hop ?_ hL.1 hL.2 (fun _ => ⟨rfl, hN2⟩) (fun z => absurd z hn0) ?_ ?_
    · intro t ht
      constructor
      · intro z
        have z' : t = sl := by simpa using z
        exact ⟨hn0, by rw [z']⟩
      · rintro ⟨_, z⟩
        have := tp_ni (show t < 2 ^ 31 by omega) (by omega) z
        simpa using this
    · intro _ h n x b8 b9 b11 I
      rw [h5] at h
      have h' : ¬ de = 1 := by simpa using h
      refine H n _ ?_
      rw [if_neg h']
      exact tp_CM_mk hfi (tp_MD_ld hs hI M I) hq
    · intro _ h n x b8 b9 b11 I
      rw [h5] at h
      have h' : de = 1 := by simpa using h
      refine H n _ ?_
      rw [if_pos h']
      exact tp_CM_mk hfi (tp_MD_ld hs hI M I) hq
  · rw [if_neg c] at hC
    exact absurd hC (by simp)
theorem tp_sendC {post : St1 → Prop} {xop xcc : Int32} {a1 a2 a3 a4 a5 a6 a7 a8 a9 a10 a11 a12 a13 a14 a15 a16 : Nat → Int32} {ob : Nat → Bool} {hd wk wn nb im : Nat → Int32} {lg : Nat → List tp_Ent} {sl N : Nat} {nm pa tr td st vo he hp de kl fi : Nat} {ph : Nat → Nat} {s : tp_Ms}  {k f t : Nat} (hG : tp_G ob hd wk wn nb im lg sl N nm pa tr td) (M : tp_MD ob hd wk wn nb im lg sl N ph de kl xop a1 a2 a3 a4 a5 a6 a7 a8 a9 a10 a11 a12) (hq : tp_MQ N fi s.1 a13 a14 a15 a16) (hfi : fi ≤ s.1.length) (hb : s.1.length ≤ 55 ∧ s.2.1 < 10000 ∧ s.2.2 < 900) (hst : 1 ≤ st ∧ st < 4) (hvo : vo < 8) (hhe : he < 8) (hhp : hp ≤ 1) (hde : de ≤ 1) (hk : k < 16) (hf : f < 16) (ht : t < 16)
    (H : ∀ u', tp_CM ob hd wk wn nb im lg sl N pa tr td xcc (st, vo, he, hp, ph, de, kl, fi, tp_send tr s k f t) u' → post u') : wpX_send post (xop, nI st, nI vo, nI he, nI N, nI N, nI sl, nI pa, nI tr, nI td, nI hp, xcc, nI fi, nI (s.1.length - fi), nI s.2.1, nI s.2.2, a1, a2, a3, a4, a5, a6, a7, a8, a9, a10, a11, a12, a13, a14, a15, a16) (nI k) (nI f) (nI t) := by
  obtain ⟨hs, hob, hI, hN, hN2, hpa, htr, htd, hpt⟩ := hG
  have hb' := tp_send_b tr s k f t
  exact tp_sendW hq hfi (by omega) (by omega) (by omega) htr hk hf ht (fun b13 b14 b15 b16 h => H _ (tp_CM_mk (by omega) M h))
theorem tp_hearP {post : St1 → Prop} {xop xcc : Int32} {a1 a2 a3 a4 a5 a6 a7 a8 a9 a10 a11 a12 a13 a14 a15 a16 : Nat → Int32} {ob : Nat → Bool} {hd wk wn nb im : Nat → Int32} {lg : Nat → List tp_Ent} {sl N : Nat} {nm pa tr td st vo he hp de kl fi m : Nat} {ph : Nat → Nat} {s : tp_Ms} {C' : tp_Ct} (hG : tp_G ob hd wk wn nb im lg sl N nm pa tr td) (M : tp_MD ob hd wk wn nb im lg sl N ph de kl xop a1 a2 a3 a4 a5 a6 a7 a8 a9 a10 a11 a12) (hq : tp_MQ N fi s.1 a13 a14 a15 a16) (hfi : fi ≤ s.1.length) (hb : s.1.length ≤ 55 ∧ s.2.1 < 10000 ∧ s.2.2 < 900) (hst : 1 ≤ st ∧ st < 4) (hvo : vo < 8) (hhe : he < 8) (hhp : hp ≤ 1) (hde : de ≤ 1) (hm : m < 3) (hC : tp_cP pa tr td m (st, vo, he, hp, ph, de, kl, fi, s) = some C') (H : ∀ u', tp_CM ob hd wk wn nb im lg sl N pa tr td xcc C' u' → post u') : wpX_hearPrepare post (xop, nI st, nI vo, nI he, nI N, nI N, nI sl, nI pa, nI tr, nI td, nI hp, xcc, nI fi, nI (s.1.length - fi), nI s.2.1, nI s.2.2, a1, a2, a3, a4, a5, a6, a7, a8, a9, a10, a11, a12, a13, a14, a15, a16) (nI m) := by
  have hG' := hG
  obtain ⟨hs, hob, hI, hN, hN2, hpa, htr, htd, hpt⟩ := hG
  unfold tp_cP at hC
  dsimp only at hC
  unfold wpX_hearPrepare
  refine tp_strikes (w := 1) (x := m) (by omega) (by omega) htr (by omega) hhp (fun c => ?_) (fun c => ?_)
  · rw [if_pos c] at hC
    refine br_f (by decide) ?_
    exact tp_crashC (hp := 1) hG' M hq hfi hb hst hvo hhe (by omega) hde hm hC (fun n u' h => H u' h)
  · rw [if_neg c] at hC
    refine br_t rfl (nm_r tp_ix3 ⟨pk_in (sl * 3 + m) 12 (by omega), ?_⟩)
    rw [nI_clamp (show sl * 3 + m < 2 ^ 31 by omega)]
    have m9 := M.2.2.2.2.2.2.2.2.1 m hm
    have m11 := M.2.2.2.2.2.2.2.2.2.2.1 m hm
    by_cases c5 : ph m = 5
    · rw [if_pos c5] at hC
      have hC' := Option.some.inj hC
      subst hC'
      refine br_f (by rw [m11.2 c5]; decide) ?_
      exact tp_sendC (k := 3) (f := m) (t := 3) hG' M hq hfi hb hst hvo hhe hhp hde (by omega) (by omega) (by omega) H
    · rw [if_neg c5] at hC
      by_cases c1 : ph m = 1
      · rw [if_pos c1] at hC
        have hC' := Option.some.inj hC
        subst hC'
        refine br_t (m11.1 (Or.inr c1)) ⟨pk_in (sl * 3 + m) 12 (by omega), br_t (by rw [m9, if_pos (Or.inl c1)]) ?_⟩
        unfold wX_hearPrepare_60
        exact tp_sendC (k := 2) (f := m) (t := 3) hG' M hq hfi hb hst hvo hhe hhp hde (by omega) (by omega) (by omega) H
      · rw [if_neg c1] at hC
        by_cases c0 : ph m = 0
        · rw [if_pos c0] at hC
          have hC' := Option.some.inj hC
          subst hC'
          have h0 : ¬ a11 (sl * 3 + m) = nI N := by
            rw [m9, if_neg (by omega)]
            exact fun z => nI_ne0 (n := N) (by omega) (by omega) z.symm
          refine br_t (m11.1 (Or.inl c0)) ⟨pk_in (sl * 3 + m) 12 (by omega), br_f h0 ?_⟩
          refine tp_promiseOn (w := wk sl) (v := wn) hm hs hN2 M.2.2.1 (tp_lgK_len hI ph de (by omega)) ?_ (fun k hk hbt => M.2.2.2.2.2.2.2.1 sl k hs hk hbt) (fun b2 b3 b4 b5 b6 hl => ?_)
          · intro k hk hkm
            rw [M.2.2.2.2.2.2.1.2 k hk, hkm, c0]; simp
          · unfold wX_hearPrepare_60
            exact tp_sendC (k := 2) (f := m) (t := 3) hG' (tp_MD_prom hm c0 M hl) hq hfi hb hst hvo hhe hhp hde (by omega) (by omega) (by omega) H
        · rw [if_neg c0] at hC
          exact absurd hC (by simp)
theorem tp_hearC2 {post : St1 → Prop} {xop xcc : Int32} {a1 a2 a3 a4 a5 a6 a7 a8 a9 a10 a11 a12 a13 a14 a15 a16 : Nat → Int32} {ob : Nat → Bool} {hd wk wn nb im : Nat → Int32} {lg : Nat → List tp_Ent} {sl N : Nat} {nm pa tr td st vo he hp de kl fi m : Nat} {ph : Nat → Nat} {s : tp_Ms} {C' : tp_Ct} (hG : tp_G ob hd wk wn nb im lg sl N nm pa tr td) (M : tp_MD ob hd wk wn nb im lg sl N ph de kl xop a1 a2 a3 a4 a5 a6 a7 a8 a9 a10 a11 a12) (hq : tp_MQ N fi s.1 a13 a14 a15 a16) (hfi : fi ≤ s.1.length) (hb : s.1.length ≤ 55 ∧ s.2.1 < 10000 ∧ s.2.2 < 900) (hst : 1 ≤ st ∧ st < 4) (hvo : vo < 8) (hhe : he < 8) (hhp : hp ≤ 1) (hde : de ≤ 1) (hm : m < 3) (hC : tp_cC2 pa tr td m (st, vo, he, hp, ph, de, kl, fi, s) = some C') (H : ∀ u', tp_CM ob hd wk wn nb im lg sl N pa tr td xcc C' u' → post u') : wX_hearCommit_66 post (nI m) xop (nI st) (nI vo) (nI he) (nI N) (nI N) (nI sl) (nI pa) (nI tr) (nI td) (nI hp) xcc (nI fi) (nI (s.1.length - fi)) (nI s.2.1) (nI s.2.2) a1 a2 a3 a4 a5 a6 a7 a8 a9 a10 a11 a12 a13 a14 a15 a16 := by
  have hG' := hG
  obtain ⟨hs, hob, hI, hN, hN2, hpa, htr, htd, hpt⟩ := hG
  unfold tp_cC2 at hC
  dsimp only at hC
  unfold wX_hearCommit_66
  refine tp_strikes (w := 5) (x := m) (by omega) (by omega) htr (by omega) hhp (fun c => ?_) (fun c => ?_)
  · rw [if_pos c] at hC
    refine br_f (by decide) ?_
    exact tp_crashC (hp := 1) hG' M hq hfi hb hst hvo hhe (by omega) hde hm hC (fun n u' h => H u' h)
  · rw [if_neg c] at hC
    have hC' := Option.some.inj hC
    subst hC'
    refine br_t rfl ?_
    exact tp_sendC (k := 6) (f := m) (t := 3) hG' M hq hfi hb hst hvo hhe hhp hde (by omega) (by omega) (by omega) H
theorem tp_lgK_end  {wk wn : Nat → Int32} {lg : Nat → List tp_Ent} {sl N : Nat} {ph : Nat → Nat} {de m p kd : Nat} {b2 b3 b4 b5 b6 : Nat → Int32} (hm : m < 3) (hp : ph m = 1 ∨ ph m = 6) (hk : (p = 2 ∧ kd = 3) ∨ (p = 3 ∧ kd = 4))
    (h : tp_LAs (tp_ul (tp_lgK lg N (wk sl) wn sl ph de) m (tp_lgK lg N (wk sl) wn sl ph de m ++ [(kd, N, 0, 0)])) b2 b3 b4 b5 b6) : tp_LAs (tp_lgK lg N (wk sl) wn sl (tp_up ph m p) de) b2 b3 b4 b5 b6 := by
  refine tp_LAs_cg (fun j hj => ?_) h
  unfold tp_ul tp_lgK
  by_cases e : j = m
  · subst e
    rw [if_pos rfl, if_neg (by omega), if_neg (by omega), tp_up_at]
    unfold tp_cu
    rw [if_pos hp]
    rcases hk with ⟨q, q'⟩ | ⟨q, q'⟩ <;> subst q q' <;> simp
  · rw [if_neg e]
    by_cases e3 : j = 3
    · rw [if_pos e3, if_pos e3]
    · rw [if_neg e3, if_neg e3, tp_up_ne ph p e]
theorem tp_hearC {post : St1 → Prop} {xop xcc : Int32} {a1 a2 a3 a4 a5 a6 a7 a8 a9 a10 a11 a12 a13 a14 a15 a16 : Nat → Int32} {ob : Nat → Bool} {hd wk wn nb im : Nat → Int32} {lg : Nat → List tp_Ent} {sl N : Nat} {nm pa tr td st vo he hp de kl fi m : Nat} {ph : Nat → Nat} {s : tp_Ms} {C' : tp_Ct} (hG : tp_G ob hd wk wn nb im lg sl N nm pa tr td) (M : tp_MD ob hd wk wn nb im lg sl N ph de kl xop a1 a2 a3 a4 a5 a6 a7 a8 a9 a10 a11 a12) (hq : tp_MQ N fi s.1 a13 a14 a15 a16) (hfi : fi ≤ s.1.length) (hb : s.1.length ≤ 55 ∧ s.2.1 < 10000 ∧ s.2.2 < 900) (hst : 1 ≤ st ∧ st < 4) (hvo : vo < 8) (hhe : he < 8) (hhp : hp ≤ 1) (hde : de ≤ 1) (hm : m < 3) (hC : tp_cC pa tr td m (st, vo, he, hp, ph, de, kl, fi, s) = some C') (H : ∀ u', tp_CM ob hd wk wn nb im lg sl N pa tr td xcc C' u' → post u') : wpX_hearCommit post (xop, nI st, nI vo, nI he, nI N, nI N, nI sl, nI pa, nI tr, nI td, nI hp, xcc, nI fi, nI (s.1.length - fi), nI s.2.1, nI s.2.2, a1, a2, a3, a4, a5, a6, a7, a8, a9, a10, a11, a12, a13, a14, a15, a16) (nI m) := by
  have hG' := hG
  obtain ⟨hs, hob, hI, hN, hN2, hpa, htr, htd, hpt⟩ := hG
  unfold tp_cC at hC
  dsimp only at hC
  unfold wpX_hearCommit
  refine tp_strikes (w := 4) (x := m) (by omega) (by omega) htr (by omega) hhp (fun c => ?_) (fun c => ?_)
  · rw [if_pos c] at hC
    refine br_f (by decide) ?_
    exact tp_crashC (hp := 1) hG' M hq hfi hb hst hvo hhe (by omega) hde hm hC (fun n u' h => H u' h)
  · rw [if_neg c] at hC
    refine br_t rfl ⟨pk_in (sl * 3 + m) 12 (by omega) tp_ix3, ?_⟩
    rw [show (nI sl * 3 + nI m).toNatClampNeg = sl * 3 + m by rw [tp_ix3, nI_clamp (show sl * 3 + m < 2 ^ 31 by omega)]]
    have m9 := M.2.2.2.2.2.2.2.2.1 m hm
    by_cases c1 : ph m = 1 ∨ ph m = 6
    · rw [if_pos c1] at hC
      refine br_t (by rw [m9, if_pos c1]) ?_
      have hlen := tp_lgK_len (sl := sl) (N := N) hI ph de (show m < 4 by omega)
      refine tp_log (e := (3, N, 0, 0)) (by omega) M.2.2.1 (by omega) ⟨by show 3 < 16; omega, hN2, by show 0 < 12; omega⟩ (fun b2 b3 b4 b5 b6 hl => ?_)
      have hl' := tp_lgK_end (p := 2) hm c1 (Or.inl ⟨rfl, rfl⟩) hl
      have hLm := hl' m (by omega)
      refine tp_applyLogged (by omega) hLm.1 hLm.2 hN2 ?_
      refine tp_releaseOn (tp_MD_V hI hs M) hs hm ?_
      refine tp_hearC2 (ph := tp_up ph m 2) hG' (tp_MD_rel hs hI hm (Or.inl rfl) M hl' ?_) hq hfi hb hst hvo hhe hhp hde hm hC H
      intro k hk
      have hold : ∀ e, e ∈ lg m → e.2.1 < N := by
        intro e he
        have := ((hI.2.2.2.2.2.1 m (by omega)).2 e he).2.1
        omega
      have hlm : tp_lgK lg N (wk sl) wn sl (tp_up ph m 2) de m = lg m ++ (tp_pr N (wk sl) wn sl m ++ [(3, N, 0, 0)]) := by
        unfold tp_lgK tp_cu
        rw [if_neg (by omega), tp_up_at, if_neg (by omega), if_pos rfl]
      rw [hlm, tp_apl_at, tp_apk_app, tp_old_apk hold, tp_apk_app, tp_pr_apk N (wk sl) wn sl hm hk]
      show (if k % 3 = m ∧ tp_bt (wk sl) k = true then wn (sl * 12 + k) else a7 k) = _
      rw [M.2.2.2.1 k hk]
      by_cases e : k % 3 = m
      · rw [e, tp_up_at, if_neg (show ¬ (ph m = 2 ∧ tp_bt (wk sl) k = true) by omega)]
        simp
      · rw [tp_up_ne ph 2 e, if_neg (fun z => e z.1)]
    · rw [if_neg c1] at hC
      by_cases c2 : ph m = 2
      · rw [if_pos c2] at hC
        have h0 : ¬ a11 (sl * 3 + m) = nI N := by
          rw [m9, if_neg c1]
          exact fun z => nI_ne0 (n := N) (by omega) (by omega) z.symm
        refine br_f h0 ?_
        exact tp_hearC2 hG' M hq hfi hb hst hvo hhe hhp hde hm hC H
      · rw [if_neg c2] at hC
        exact absurd hC (by simp)
theorem tp_hearR {post : St1 → Prop} {xop xcc : Int32} {a1 a2 a3 a4 a5 a6 a7 a8 a9 a10 a11 a12 a13 a14 a15 a16 : Nat → Int32} {ob : Nat → Bool} {hd wk wn nb im : Nat → Int32} {lg : Nat → List tp_Ent} {sl N : Nat} {nm pa tr td st vo he hp de kl fi m : Nat} {ph : Nat → Nat} {s : tp_Ms} {C' : tp_Ct} (hG : tp_G ob hd wk wn nb im lg sl N nm pa tr td) (M : tp_MD ob hd wk wn nb im lg sl N ph de kl xop a1 a2 a3 a4 a5 a6 a7 a8 a9 a10 a11 a12) (hq : tp_MQ N fi s.1 a13 a14 a15 a16) (hfi : fi ≤ s.1.length) (hb : s.1.length ≤ 55 ∧ s.2.1 < 10000 ∧ s.2.2 < 900) (hst : 1 ≤ st ∧ st < 4) (hvo : vo < 8) (hhe : he < 8) (hhp : hp ≤ 1) (hde : de ≤ 1) (hm : m < 3) (hC : tp_cR tr m (st, vo, he, hp, ph, de, kl, fi, s) = some C') (H : ∀ u', tp_CM ob hd wk wn nb im lg sl N pa tr td xcc C' u' → post u') : wpX_hearRefuse post (xop, nI st, nI vo, nI he, nI N, nI N, nI sl, nI pa, nI tr, nI td, nI hp, xcc, nI fi, nI (s.1.length - fi), nI s.2.1, nI s.2.2, a1, a2, a3, a4, a5, a6, a7, a8, a9, a10, a11, a12, a13, a14, a15, a16) (nI m) := by
  have hG' := hG
  obtain ⟨hs, hob, hI, hN, hN2, hpa, htr, htd, hpt⟩ := hG
  unfold tp_cR at hC
  dsimp only at hC
  refine And.intro (pk_in (sl * 3 + m) 12 (by omega) tp_ix3) ?_
  rw [show (nI sl * 3 + nI m).toNatClampNeg = sl * 3 + m by rw [tp_ix3, nI_clamp (show sl * 3 + m < 2 ^ 31 by omega)]]
  have m9 := M.2.2.2.2.2.2.2.2.1 m hm
  by_cases c1 : ph m = 1
  · rw [if_pos c1] at hC
    have hC' := Option.some.inj hC
    subst hC'
    refine br_t (by rw [m9, if_pos (Or.inl c1)]) ?_
    have hlen := tp_lgK_len (sl := sl) (N := N) hI ph de (show m < 4 by omega)
    refine tp_log (e := (4, N, 0, 0)) (by omega) M.2.2.1 (by omega) ⟨by show 4 < 16; omega, hN2, by show 0 < 12; omega⟩ (fun b2 b3 b4 b5 b6 hl => ?_)
    have hl' := tp_lgK_end (p := 3) hm (Or.inl c1) (Or.inr ⟨rfl, rfl⟩) hl
    unfold wX_hearRefuse_32
    refine tp_releaseOn (tp_MD_V hI hs M) hs hm ?_
    refine tp_sendC (k := 6) (f := m) (t := 3) (ph := tp_up ph m 3) hG' (tp_MD_rel hs hI hm (Or.inr rfl) M hl' ?_) hq hfi hb hst hvo hhe hhp hde (by omega) (by omega) (by omega) H
    intro k hk
    rw [M.2.2.2.1 k hk]
    by_cases e : k % 3 = m
    · rw [e, tp_up_at, c1]; simp
    · rw [tp_up_ne ph 3 e]
  · rw [if_neg c1] at hC
    by_cases c5 : ph m = 5
    · rw [if_pos c5] at hC
      have hC' := Option.some.inj hC
      subst hC'
      have h0 : ¬ a11 (sl * 3 + m) = nI N := by
        rw [m9, if_neg (by omega)]
        exact fun z => nI_ne0 (n := N) (by omega) (by omega) z.symm
      refine br_f h0 ?_
      unfold wX_hearRefuse_32
      refine tp_releaseOn (tp_MD_V hI hs M) hs hm ?_
      exact tp_sendC (k := 6) (f := m) (t := 3) hG' (tp_MD_rel5 hs hm c5 M) hq hfi hb hst hvo hhe hhp hde (by omega) (by omega) (by omega) H
    · rw [if_neg c5] at hC
      exact absurd hC (by simp)
end
section
/-! the leader; a message is delivered; the rounds -/
theorem tp_cCr_inv {pa m st vo he hp de kl fi : Nat} {ph : Nat → Nat} {s : tp_Ms} {C' : tp_Ct} (h : tp_cCr pa m (st, vo, he, hp, ph, de, kl, fi, s) = some C') : ∃ ph', C' = (st, vo, he, hp, ph', de, m + 1, fi, s) := by
  unfold tp_cCr at h
  dsimp only at h
  split at h
  · exact ⟨_, (Option.some.inj h).symm⟩
  · exact absurd h (by simp)
theorem tp_cLd_inv {st vo he hp de kl fi : Nat} {ph : Nat → Nat} {s : tp_Ms} {C' : tp_Ct} (h : tp_cLd (st, vo, he, hp, ph, de, kl, fi, s) = some C') : C' = ((if de = 1 then 2 else 3), 0, 0, hp, ph, de, 4, fi, s) := by
  unfold tp_cLd at h
  dsimp only at h
  split at h
  · exact (Option.some.inj h).symm
  · exact absurd h (by simp)
theorem tp_d125 {post : St1 → Prop} {xop xcc : Int32} {a1 a2 a3 a4 a5 a6 a7 a8 a9 a10 a11 a12 a13 a14 a15 a16 : Nat → Int32} {ob : Nat → Bool} {hd wk wn nb im : Nat → Int32} {lg : Nat → List tp_Ent} {sl N : Nat} {nm pa tr td st vo he hp de kl fi : Nat} {ph : Nat → Nat} {s : tp_Ms} {C' : tp_Ct} (hG : tp_G ob hd wk wn nb im lg sl N nm pa tr td) (M : tp_MD ob hd wk wn nb im lg sl N ph de kl xop a1 a2 a3 a4 a5 a6 a7 a8 a9 a10 a11 a12) (hq : tp_MQ N fi s.1 a13 a14 a15 a16) (hfi : fi ≤ s.1.length) (hb : s.1.length ≤ 55 ∧ s.2.1 < 10000 ∧ s.2.2 < 900) (hst : 1 ≤ st ∧ st < 4) (hvo : vo < 8) (hhe : he < 8) (hhp : hp ≤ 1) (hde : de ≤ 1) (hC : tp_cD3 pa tr (st, vo, he, hp, ph, de, kl, fi, s) = some C') (H : ∀ u', tp_CM ob hd wk wn nb im lg sl N pa tr td xcc C' u' → post u') : wX_decideIfReady_125 post xop (nI st) (nI vo) (nI he) (nI N) (nI N) (nI sl) (nI pa) (nI tr) (nI td) (nI hp) xcc (nI fi) (nI (s.1.length - fi)) (nI s.2.1) (nI s.2.2) a1 a2 a3 a4 a5 a6 a7 a8 a9 a10 a11 a12 a13 a14 a15 a16 := by
  obtain ⟨hs, hob, hI, hN, hN2, hpa, htr, htd, hpt⟩ := hG
  have hC' := Option.some.inj hC
  subst hC'
  unfold wX_decideIfReady_125
  exact tp_remind hs htr (by omega) hpa (by omega) hvo hhe M.2.2.2.2.2.2.2.2.1 hq hfi (by omega) (by omega) (by omega) (fun b13 b14 b15 b16 h hf => H _ (tp_CM_mk hf M h))
theorem tp_decC2 {post : St1 → Prop} {xop xcc : Int32} {a1 a2 a3 a4 a5 a6 a7 a8 a9 a10 a11 a12 a13 a14 a15 a16 : Nat → Int32} {ob : Nat → Bool} {hd wk wn nb im : Nat → Int32} {lg : Nat → List tp_Ent} {sl N : Nat} {nm pa tr td st vo he hp de kl fi : Nat} {ph : Nat → Nat} {s : tp_Ms} {C' : tp_Ct} (hG : tp_G ob hd wk wn nb im lg sl N nm pa tr td) (M : tp_MD ob hd wk wn nb im lg sl N ph de kl xop a1 a2 a3 a4 a5 a6 a7 a8 a9 a10 a11 a12) (hq : tp_MQ N fi s.1 a13 a14 a15 a16) (hfi : fi ≤ s.1.length) (hb : s.1.length ≤ 55 ∧ s.2.1 < 10000 ∧ s.2.2 < 900) (hst : 1 ≤ st ∧ st < 4) (hvo : vo < 8) (hhe : he < 8) (hhp : hp ≤ 1) (hde : de ≤ 1) (hC : tp_cD2 pa tr td (st, vo, he, hp, ph, de, kl, fi, s) = some C') (H : ∀ u', tp_CM ob hd wk wn nb im lg sl N pa tr td xcc C' u' → post u') : wX_decideIfReady_64 post xop (nI st) (nI vo) (nI he) (nI N) (nI N) (nI sl) (nI pa) (nI tr) (nI td) (nI hp) xcc (nI fi) (nI (s.1.length - fi)) (nI s.2.1) (nI s.2.2) a1 a2 a3 a4 a5 a6 a7 a8 a9 a10 a11 a12 a13 a14 a15 a16 := by
  have hG' := hG
  obtain ⟨hs, hob, hI, hN, hN2, hpa, htr, htd, hpt⟩ := hG
  unfold tp_cD2 at hC
  dsimp only at hC
  have h95 : ¬ (pa.testBit td = false ∧ (tr = 4 ∨ tr = 5) ∧ hp = 0) → wX_decideIfReady_125 post xop (nI st) (nI vo) (nI he) (nI N) (nI N) (nI sl) (nI pa) (nI tr) (nI td) (nI hp) xcc (nI fi) (nI (s.1.length - fi)) (nI s.2.1) (nI s.2.2) a1 a2 a3 a4 a5 a6 a7 a8 a9 a10 a11 a12 a13 a14 a15 a16 := by
    intro c
    rw [if_neg c] at hC
    exact tp_d125 hG' M hq hfi hb hst hvo hhe hhp hde hC H
  have h91 : pa.testBit td = false → (tr = 4 ∨ tr = 5) → wX_decideIfReady_91 post xop (nI st) (nI vo) (nI he) (nI N) (nI N) (nI sl) (nI pa) (nI tr) (nI td) (nI hp) xcc (nI fi) (nI (s.1.length - fi)) (nI s.2.1) (nI s.2.2) a1 a2 a3 a4 a5 a6 a7 a8 a9 a10 a11 a12 a13 a14 a15 a16 := by
    intro cp ct
    unfold wX_decideIfReady_91 wX_decideIfReady_96
    refine br_f (by decide) ?_
    refine tp_strikes (w := tr) (x := td) htr (by omega) htr (by omega) hhp (fun c => ?_) (fun c => ?_)
    · refine br_f (by decide) ?_
      rw [if_pos ⟨cp, ct, c.2.1⟩] at hC
      obtain ⟨C1, h1, h2⟩ := Option.bind_eq_some_iff.mp hC
      obtain ⟨ph', e⟩ := tp_cCr_inv h1
      refine tp_crashC (hp := 1) hG' M hq hfi hb hst hvo hhe (by omega) hde htd h1 (fun n u' h => ?_)
      rw [e] at h h2
      refine tp_CM_el (P := fun u => match u with | (xop, xst, xvo, xhe, xns, xnm, xsl, xpa, xtr, xtd, xhp, xcc, xfi, xwa, xse, xlo, a1, a2, a3, a4, a5, a6, a7, a8, a9, a10, a11, a12, a13, a14, a15, a16) => wX_decideIfReady_125 post xop xst xvo xhe xns xnm xsl xpa xtr xtd xhp xcc xfi xwa xse xlo a1 a2 a3 a4 a5 a6 a7 a8 a9 a10 a11 a12 a13 a14 a15 a16) h (fun yop b1 b2 b3 b4 b5 b6 b7 b8 b9 b10 b11 b12 b13 b14 b15 b16 f1 f2 f3 => ?_)
      exact tp_d125 (hp := 1) hG' f2 f3 f1 hb hst hvo hhe (by omega) hde h2 H
    · refine br_t rfl (h95 (fun z => c ⟨rfl, z.2.2, rfl⟩))
  have h95' : ¬ (pa.testBit td = false ∧ (tr = 4 ∨ tr = 5) ∧ hp = 0) → wX_decideIfReady_95 post xop (nI st) (nI vo) (nI he) (nI N) (nI N) (nI sl) (nI pa) (nI tr) (nI td) (nI hp) xcc (nI fi) (nI (s.1.length - fi)) (nI s.2.1) (nI s.2.2) a1 a2 a3 a4 a5 a6 a7 a8 a9 a10 a11 a12 a13 a14 a15 a16 := by
    intro c
    unfold wX_decideIfReady_95 wX_decideIfReady_96
    exact br_t rfl (h95 c)
  unfold wX_decideIfReady_64
  refine tp_isPartN htd hpa (fun c => br_t rfl ?_) (fun c => br_f (by decide) (h95' (fun z => absurd z.1 (by rw [c]; simp))))
  refine pk_eq tr 4 (fun z => h91 c (Or.inl z)) (fun z => ?_)
  exact pk_eq tr 5 (fun z' => h91 c (Or.inr z')) (fun z' => h95' (fun q => by omega))
theorem tp_decC {post : St1 → Prop} {xop xcc : Int32} {a1 a2 a3 a4 a5 a6 a7 a8 a9 a10 a11 a12 a13 a14 a15 a16 : Nat → Int32} {ob : Nat → Bool} {hd wk wn nb im : Nat → Int32} {lg : Nat → List tp_Ent} {sl N : Nat} {nm pa tr td st vo he hp de kl fi : Nat} {ph : Nat → Nat} {s : tp_Ms} {C' : tp_Ct} (hG : tp_G ob hd wk wn nb im lg sl N nm pa tr td) (M : tp_MD ob hd wk wn nb im lg sl N ph de kl xop a1 a2 a3 a4 a5 a6 a7 a8 a9 a10 a11 a12) (hq : tp_MQ N fi s.1 a13 a14 a15 a16) (hfi : fi ≤ s.1.length) (hb : s.1.length ≤ 55 ∧ s.2.1 < 10000 ∧ s.2.2 < 900) (hst : 1 ≤ st ∧ st < 4) (hvo : vo < 8) (hhe : he < 8) (hhp : hp ≤ 1) (hde : de ≤ 1) (hC : tp_cD pa tr td (st, vo, he, hp, ph, de, kl, fi, s) = some C') (H : ∀ u', tp_CM ob hd wk wn nb im lg sl N pa tr td xcc C' u' → post u') : wpX_decideIfReady post (xop, nI st, nI vo, nI he, nI N, nI N, nI sl, nI pa, nI tr, nI td, nI hp, xcc, nI fi, nI (s.1.length - fi), nI s.2.1, nI s.2.2, a1, a2, a3, a4, a5, a6, a7, a8, a9, a10, a11, a12, a13, a14, a15, a16) := by
  have hG' := hG
  obtain ⟨hs, hob, hI, hN, hN2, hpa, htr, htd, hpt⟩ := hG
  unfold tp_cD at hC
  dsimp only at hC
  refine pk_eq vo pa (fun z => ?_) (fun z => ?_)
  · rw [if_pos z] at hC
    refine tp_strikes (w := 2) (x := td) (by omega) (by omega) htr (by omega) hhp (fun c => ?_) (fun c => ?_)
    · rw [if_pos ⟨c.1, c.2.1⟩] at hC
      refine br_f (by decide) ?_
      exact tp_leadC (hp := 1) hG' M hq hfi hb hst hvo hhe (by omega) hde hC (fun n u' h => H u' h)
    · rw [if_neg (fun q => c ⟨q.1, q.2, rfl⟩)] at hC
      refine br_t rfl ?_
      by_cases cd : de = 0
      · rw [if_pos cd] at hC
        subst cd
        have hlen := tp_lgK_len (sl := sl) (N := N) hI ph 0 (show 3 < 4 by omega)
        refine tp_log (m := 3) (e := (5, N, 0, 0)) (by omega) M.2.2.1 (by omega) ⟨by show 5 < 16; omega, hN2, by show 0 < 12; omega⟩ (fun b2 b3 b4 b5 b6 hl => ?_)
        have M' := tp_MD_dec M hl
        refine tp_strikes (w := 3) (x := td) (by omega) (by omega) htr (by omega) hhp (fun c3 => ?_) (fun c3 => ?_)
        · rw [if_pos ⟨c3.1, c3.2.1⟩] at hC
          obtain ⟨C1, h1, h2⟩ := Option.bind_eq_some_iff.mp hC
          refine br_f (by decide) ?_
          refine tp_leadC (st := 2) (hp := 1) hG' M' hq hfi hb (by omega) hvo hhe (by omega) (by omega) h1 (fun n u' h => ?_)
          have e := tp_cLd_inv h1
          rw [if_pos rfl] at e
          rw [e] at h h2
          refine tp_CM_el (P := fun u => match u with | (xop, xst, xvo, xhe, xns, xnm, xsl, xpa, xtr, xtd, xhp, xcc, xfi, xwa, xse, xlo, a1, a2, a3, a4, a5, a6, a7, a8, a9, a10, a11, a12, a13, a14, a15, a16) => wX_decideIfReady_64 post xop xst xvo xhe xns xnm xsl xpa xtr xtd xhp xcc xfi xwa xse xlo a1 a2 a3 a4 a5 a6 a7 a8 a9 a10 a11 a12 a13 a14 a15 a16) h (fun yop b1 b2 b3 b4 b5 b6 b7 b8 b9 b10 b11 b12 b13 b14 b15 b16 f1 f2 f3 => ?_)
          exact tp_decC2 (st := 2) (vo := 0) (he := 0) (hp := 1) hG' f2 f3 f1 hb (by omega) (by omega) (by omega) (by omega) (by omega) h2 H
        · rw [if_neg (fun q => c3 ⟨q.1, q.2, rfl⟩)] at hC
          refine br_t rfl ?_
          exact tp_decC2 (st := 2) hG' M' hq hfi hb (by omega) hvo hhe hhp (by omega) hC H
      · rw [if_neg cd] at hC
        exact absurd hC (by simp)
  · rw [if_neg z] at hC
    have hC' := Option.some.inj hC
    subst hC'
    exact H _ (tp_CM_mk hfi M hq)
theorem tp_hearL {post : St1 → Prop} {xop xcc : Int32} {a1 a2 a3 a4 a5 a6 a7 a8 a9 a10 a11 a12 a13 a14 a15 a16 : Nat → Int32} {ob : Nat → Bool} {hd wk wn nb im : Nat → Int32} {lg : Nat → List tp_Ent} {sl N : Nat} {nm pa tr td st vo he hp de kl fi : Nat} {ph : Nat → Nat} {s : tp_Ms} {C' : tp_Ct} {k f : Nat} (hG : tp_G ob hd wk wn nb im lg sl N nm pa tr td) (M : tp_MD ob hd wk wn nb im lg sl N ph de kl xop a1 a2 a3 a4 a5 a6 a7 a8 a9 a10 a11 a12) (hq : tp_MQ N fi s.1 a13 a14 a15 a16) (hfi : fi ≤ s.1.length) (hb : s.1.length ≤ 55 ∧ s.2.1 < 10000 ∧ s.2.2 < 900) (hst : 1 ≤ st ∧ st < 4) (hvo : vo < 8) (hhe : he < 8) (hhp : hp ≤ 1) (hde : de ≤ 1) (hk : k < 8) (hf : f < 3) (hC : tp_cL pa tr td k f (st, vo, he, hp, ph, de, kl, fi, s) = some C') (H : ∀ u', tp_CM ob hd wk wn nb im lg sl N pa tr td xcc C' u' → post u') : wpX_hearAsLeader post (xop, nI st, nI vo, nI he, nI N, nI N, nI sl, nI pa, nI tr, nI td, nI hp, xcc, nI fi, nI (s.1.length - fi), nI s.2.1, nI s.2.2, a1, a2, a3, a4, a5, a6, a7, a8, a9, a10, a11, a12, a13, a14, a15, a16) (nI k) (nI f) := by
  have hG' := hG
  obtain ⟨hs, hob, hI, hN, hN2, hpa, htr, htd, hpt⟩ := hG
  unfold tp_cL at hC
  dsimp only at hC
  have h90 : ¬ (k = 2 ∧ st = 1) → ¬ (k = 3 ∧ st = 1) → ¬ (k = 6 ∧ (st = 2 ∨ st = 3)) → wX_hearAsLeader_90 post (nI k) (nI f) xop (nI st) (nI vo) (nI he) (nI N) (nI N) (nI sl) (nI pa) (nI tr) (nI td) (nI hp) xcc (nI fi) (nI (s.1.length - fi)) (nI s.2.1) (nI s.2.2) a1 a2 a3 a4 a5 a6 a7 a8 a9 a10 a11 a12 a13 a14 a15 a16 := by
    intro c1 c2 c3
    rw [if_neg c1, if_neg c2, if_neg c3] at hC
    unfold wX_hearAsLeader_90
    refine pk_eq k 7 (fun z => ?_) (fun z => ?_)
    · rw [if_pos z] at hC
      have hC' := Option.some.inj hC
      subst hC'
      have hL := M.2.2.1 3 (by omega)
      have h5 := tp_has5 (sl := sl) (N := N) (ph := ph) (de := de) hI hN
      refine tp_isLogged (m := 3) (kd := 5) (by omega) hL.1 hL.2 (by omega) hN2 (fun c => br_t rfl ?_) (fun c => br_f (by decide) ?_)
      · rw [h5] at c
        have c' : ¬ de = 1 := by simpa using c
        rw [if_neg c'] at H
        unfold wX_hearAsLeader_117
        exact tp_sendC (k := 5) (f := 3) (t := f) hG' M hq hfi hb hst hvo hhe hhp hde (by omega) (by omega) (by omega) H
      · rw [h5] at c
        have c' : de = 1 := by simpa using c
        rw [if_pos c'] at H
        unfold wX_hearAsLeader_117
        exact tp_sendC (k := 4) (f := 3) (t := f) hG' M hq hfi hb hst hvo hhe hhp hde (by omega) (by omega) (by omega) H
    · rw [if_neg z] at hC
      have hC' := Option.some.inj hC
      subst hC'
      exact H _ (tp_CM_mk hfi M hq)
  have h53 : ¬ (k = 2 ∧ st = 1) → ¬ (k = 3 ∧ st = 1) → wX_hearAsLeader_53 post (nI k) (nI f) xop (nI st) (nI vo) (nI he) (nI N) (nI N) (nI sl) (nI pa) (nI tr) (nI td) (nI hp) xcc (nI fi) (nI (s.1.length - fi)) (nI s.2.1) (nI s.2.2) a1 a2 a3 a4 a5 a6 a7 a8 a9 a10 a11 a12 a13 a14 a15 a16 := by
    intro c1 c2
    have h75 : (k = 6 ∧ (st = 2 ∨ st = 3)) → wX_hearAsLeader_75 post (nI f) xop (nI st) (nI vo) (nI he) (nI N) (nI N) (nI sl) (nI pa) (nI tr) (nI td) (nI hp) xcc (nI fi) (nI (s.1.length - fi)) (nI s.2.1) (nI s.2.2) a1 a2 a3 a4 a5 a6 a7 a8 a9 a10 a11 a12 a13 a14 a15 a16 := by
      intro c3
      rw [if_neg c1, if_neg c2, if_pos c3] at hC
      have hC' := Option.some.inj hC
      subst hC'
      unfold wX_hearAsLeader_75
      exact nm_r (tp_n8o he hhe f hf) (H _ (tp_CM_mk hfi M hq))
    unfold wX_hearAsLeader_53
    refine pk_eq k 6 (fun z => ?_) (fun z => h90 c1 c2 (fun q => z q.1))
    refine pk_eq st 2 (fun z2 => h75 ⟨z, Or.inl z2⟩) (fun z2 => ?_)
    exact pk_eq st 3 (fun z3 => h75 ⟨z, Or.inr z3⟩) (fun z3 => h90 c1 c2 (fun q => by omega))
  have h32 : ¬ (k = 2 ∧ st = 1) → wX_hearAsLeader_32 post (nI k) (nI f) xop (nI st) (nI vo) (nI he) (nI N) (nI N) (nI sl) (nI pa) (nI tr) (nI td) (nI hp) xcc (nI fi) (nI (s.1.length - fi)) (nI s.2.1) (nI s.2.2) a1 a2 a3 a4 a5 a6 a7 a8 a9 a10 a11 a12 a13 a14 a15 a16 := by
    intro c1
    unfold wX_hearAsLeader_32
    refine pk_eq k 3 (fun z => ?_) (fun z => h53 c1 (fun q => z q.1))
    refine pk_eq st 1 (fun z2 => ?_) (fun z2 => h53 c1 (fun q => z2 q.2))
    rw [if_neg c1, if_pos ⟨z, z2⟩] at hC
    have hC' := Option.some.inj hC
    subst hC'
    exact H _ (tp_CM_mk hfi M hq)
  refine pk_eq k 2 (fun z => ?_) (fun z => h32 (fun q => z q.1))
  refine pk_eq st 1 (fun z2 => ?_) (fun z2 => h32 (fun q => z2 q.2))
  rw [if_pos ⟨z, z2⟩] at hC
  refine nm_r (tp_n8o vo hvo f hf) ?_
  exact tp_decC (vo := vo ||| 2 ^ f) hG' M hq hfi hb hst (tp_n8l vo hvo f hf) hhe hhp hde hC H
theorem tp_MQ_pop {N fi : Nat} {Q : List (Nat × Nat × Nat)} {a13 a14 a15 a16 : Nat → Int32} (h : tp_MQ N fi Q a13 a14 a15 a16) : tp_MQ N (fi + 1) Q a13 a14 a15 a16 :=
  fun i q hi hx => h i q (by omega) hx
theorem tp_deliver {post : St1 → Prop} {xop xcc : Int32} {a1 a2 a3 a4 a5 a6 a7 a8 a9 a10 a11 a12 a13 a14 a15 a16 : Nat → Int32} {ob : Nat → Bool} {hd wk wn nb im : Nat → Int32} {lg : Nat → List tp_Ent} {sl N : Nat} {nm pa tr td st vo he hp de kl fi : Nat} {ph : Nat → Nat} {s : tp_Ms} {C' : tp_Ct} {q : Nat × Nat × Nat} (hG : tp_G ob hd wk wn nb im lg sl N nm pa tr td) (M : tp_MD ob hd wk wn nb im lg sl N ph de kl xop a1 a2 a3 a4 a5 a6 a7 a8 a9 a10 a11 a12) (hq : tp_MQ N fi s.1 a13 a14 a15 a16) (hfi : fi ≤ s.1.length) (hb : s.1.length ≤ 55 ∧ s.2.1 < 10000 ∧ s.2.2 < 900) (hst : 1 ≤ st ∧ st < 4) (hvo : vo < 8) (hhe : he < 8) (hhp : hp ≤ 1) (hde : de ≤ 1) (hx : s.1[fi]? = some q) (hC : tp_cM pa tr td q.1 q.2.1 q.2.2 (st, vo, he, hp, ph, de, kl, fi + 1, s) = some C') (H : ∀ u', tp_CM ob hd wk wn nb im lg sl N pa tr td xcc C' u' → post u') : wpX_deliver post (xop, nI st, nI vo, nI he, nI N, nI N, nI sl, nI pa, nI tr, nI td, nI hp, xcc, nI fi, nI (s.1.length - fi), nI s.2.1, nI s.2.2, a1, a2, a3, a4, a5, a6, a7, a8, a9, a10, a11, a12, a13, a14, a15, a16) := by
  have hG' := hG
  obtain ⟨hs, hob, hI, hN, hN2, hpa, htr, htd, hpt⟩ := hG
  have hlt : fi < s.1.length := by
    rcases Nat.lt_or_ge fi s.1.length with z | z
    · exact z
    · rw [List.getElem?_eq_none z] at hx
      exact absurd hx (by simp)
  obtain ⟨e13, e14, e15, e16⟩ := hq fi q (by omega) hx
  have hq' := tp_MQ_pop hq
  unfold tp_cM at hC
  by_cases cb : q.1 < 8 ∧ q.2.1 < 4 ∧ q.2.2 < 4
  · rw [if_pos cb] at hC
    have h1 : (nI fi + 1) - (nI fi + 1) / 64 * 64 = nI (fi + 1) := by
      rw [nI_1]
      show nI (fi + 1) - nI (fi + 1) / nI 64 * nI 64 = _
      rw [pk_rem (by omega) (by omega) (by omega), Nat.mod_eq_of_lt (by omega)]
    have h2 : nI (s.1.length - fi) - 1 = nI (s.1.length - (fi + 1)) := by
      rw [show s.1.length - fi = (s.1.length - (fi + 1)) + 1 by omega, nI_pred]
    have hin : vp_in (nI fi) 64 := vp_in_nI (by omega) (by omega)
    refine And.intro (by decide) (nm_r h1 (nm_r h2 ⟨hin, ?_⟩))
    rw [nI_clamp (show fi < 2 ^ 31 by omega), e13, e14, e15, e16]
    refine br_t rfl ⟨hin, nm_e ⟨hin, ?_⟩⟩
    refine pk_eq q.2.2 3 (fun z => ⟨hin, ?_⟩) (fun z => ⟨hin, hin, ?_⟩)
    · rw [if_pos z] at hC
      by_cases cf : q.2.1 < 3
      · rw [if_pos cf] at hC
        exact tp_hearL (fi := fi + 1) hG' M hq' (by omega) hb hst hvo hhe hhp hde cb.1 cf hC H
      · rw [if_neg cf] at hC
        exact absurd hC (by simp)
    · rw [if_neg z] at hC
      have ht3 : q.2.2 < 3 := by omega
      refine pk_eq q.1 1 (fun z1 => ?_) (fun z1 => ?_)
      · rw [if_pos z1] at hC
        exact tp_hearP (fi := fi + 1) hG' M hq' (by omega) hb hst hvo hhe hhp hde ht3 hC H
      · rw [if_neg z1] at hC
        refine pk_eq q.1 4 (fun z4 => ?_) (fun z4 => ?_)
        · rw [if_pos z4] at hC
          exact tp_hearC (fi := fi + 1) hG' M hq' (by omega) hb hst hvo hhe hhp hde ht3 hC H
        · rw [if_neg z4] at hC
          exact tp_hearR (fi := fi + 1) hG' M hq' (by omega) hb hst hvo hhe hhp hde ht3 hC H
  · rw [if_neg cb] at hC
    exact absurd hC (by simp)
theorem tp_isOver {post : Int32 → Prop} {xop xvo xns xnm xsl xtr xtd xhp xcc xfi xwa xse xlo : Int32} {a1 a2 a3 a4 a5 a6 a7 a8 a9 a10 a11 a12 a13 a14 a15 a16 : Nat → Int32} {st he pa : Nat} (hst : st < 4) (hhe : he < 8) (hpa : pa < 8) (H1 : (st = 2 ∨ st = 3) ∧ he = pa → post 1) (H0 : ¬ ((st = 2 ∨ st = 3) ∧ he = pa) → post 0) : wpX_isOver post (xop, nI st, xvo, nI he, xns, xnm, xsl, nI pa, xtr, xtd, xhp, xcc, xfi, xwa, xse, xlo, a1, a2, a3, a4, a5, a6, a7, a8, a9, a10, a11, a12, a13, a14, a15, a16) := by
  have h16 : (st = 2 ∨ st = 3) → wX_isOver_16 post xop (nI st) xvo (nI he) xns xnm xsl (nI pa) xtr xtd xhp xcc xfi xwa xse xlo a1 a2 a3 a4 a5 a6 a7 a8 a9 a10 a11 a12 a13 a14 a15 a16 := by
    intro c
    unfold wX_isOver_16
    exact pk_eq he pa (fun z => H1 ⟨c, z⟩) (fun z => H0 (fun q => z q.2))
  refine pk_eq st 2 (fun z => h16 (Or.inl z)) (fun z => ?_)
  exact pk_eq st 3 (fun z' => h16 (Or.inr z')) (fun z' => H0 (fun q => by omega))
def tp_u75 (post : Int32 → St1 → Prop) (x1 : Int32) (n : Nat) (r : Int32) (u : St1) : Prop := match u with
  | (xop, xst, xvo, xhe, xns, xnm, xsl, xpa, xtr, xtd, xhp, xcc, xfi, xwa, xse, xlo, a1, a2, a3, a4, a5, a6, a7, a8, a9, a10, a11, a12, a13, a14, a15, a16) => wX_commit_75 post x1 n r xop xst xvo xhe xns xnm xsl xpa xtr xtd xhp xcc xfi xwa xse xlo a1 a2 a3 a4 a5 a6 a7 a8 a9 a10 a11 a12 a13 a14 a15 a16
def tp_u114 (post : Int32 → St1 → Prop) (x1 : Int32) (u : St1) : Prop := match u with
  | (xop, xst, xvo, xhe, xns, xnm, xsl, xpa, xtr, xtd, xhp, xcc, xfi, xwa, xse, xlo, a1, a2, a3, a4, a5, a6, a7, a8, a9, a10, a11, a12, a13, a14, a15, a16) => wX_commit_114 post x1 xop xst xvo xhe xns xnm xsl xpa xtr xtd xhp xcc xfi xwa xse xlo a1 a2 a3 a4 a5 a6 a7 a8 a9 a10 a11 a12 a13 a14 a15 a16
theorem tp_rounds {post : Int32 → St1 → Prop} {ob : Nat → Bool} {hd wk wn nb im : Nat → Int32} {lg : Nat → List tp_Ent} {sl N : Nat} {nm pa tr td : Nat} {xcc x1 : Int32} {Cf : tp_Ct} (hG : tp_G ob hd wk wn nb im lg sl N nm pa tr td) (H : ∀ u', tp_CM ob hd wk wn nb im lg sl N pa tr td xcc Cf u' → tp_u114 post x1 u') :
    ∀ (n : Nat) (C : tp_Ct) (r : Nat) (u : St1), tp_run pa tr td n C = some Cf → r + n ≤ 2000 → tp_CM ob hd wk wn nb im lg sl N pa tr td xcc C u → tp_u75 post x1 n (nI r) u := by
  intro n
  induction n with
  | zero =>
    intro C r u hr _ _
    exact absurd hr (by unfold tp_run; simp)
  | succ n ih =>
    intro C r u hr hle hM
    unfold tp_run at hr
    by_cases cg : tp_grd pa C = true
    · rw [if_pos cg] at hr
      obtain ⟨st, vo, he, hp, ph, de, kl, fi, s⟩ := C
      have hg : 1 ≤ st ∧ st ≤ 3 ∧ vo < 8 ∧ he < 8 ∧ hp ≤ 1 ∧ de ≤ 1 ∧ kl ≤ 4 ∧ fi ≤ s.1.length ∧ s.1.length ≤ 50 ∧ s.2.1 ≤ 1000 ∧ s.2.2 ≤ 100 := by
        unfold tp_grd at cg
        simpa using cg
      have hG' := hG
      obtain ⟨hs, hob, hI, hN, hN2, hpa, htr, htd, hpt⟩ := hG
      refine tp_CM_el (P := fun u => tp_u75 post x1 (n + 1) (nI r) u) hM (fun xop a1 a2 a3 a4 a5 a6 a7 a8 a9 a10 a11 a12 a13 a14 a15 a16 hfi M hq => ?_)
      unfold tp_u75
      refine pk_le 2000 r (fun z => absurd z (by omega)) (fun _ => ?_)
      by_cases co : tp_ovr pa (st, vo, he, hp, ph, de, kl, fi, s) = true
      · rw [if_pos co] at hr
        have hr' := Option.some.inj hr
        subst hr'
        have co' : (st = 2 ∨ st = 3) ∧ he = pa := by
          unfold tp_ovr at co
          simpa using co
        refine tp_isOver (by omega) (by omega) hpa (fun _ => br_f (by decide) ?_) (fun z => absurd co' z)
        exact H _ (tp_CM_mk hfi M hq)
      · rw [if_neg co] at hr
        have co' : ¬ ((st = 2 ∨ st = 3) ∧ he = pa) := by
          unfold tp_ovr at co
          simpa using co
        obtain ⟨C1, h1, h2⟩ := Option.bind_eq_some_iff.mp hr
        refine tp_isOver (by omega) (by omega) hpa (fun z => absurd z co') (fun _ => br_t rfl ?_)
        unfold tp_cS at h1
        dsimp only at h1
        have hb : s.1.length ≤ 55 ∧ s.2.1 < 10000 ∧ s.2.2 < 900 := by omega
        cases hx : s.1[fi]? with
        | none =>
          rw [hx] at h1
          have h1' := Option.some.inj h1
          subst h1'
          have hge : s.1.length ≤ fi := List.getElem?_eq_none_iff.mp hx
          refine pk_eq (s.1.length - fi) 0 (fun _ => ?_) (fun z => absurd z (by omega))
          refine tp_remind hs htr (by omega) hpa (by omega) (by omega) (by omega) M.2.2.2.2.2.2.2.2.1 hq hfi (by omega) (by omega) (by omega) (fun b13 b14 b15 b16 h hf => ?_)
          refine nm_r (nI_1 r) ?_
          exact ih _ (r + 1) _ h2 (by omega) (tp_CM_mk hf M h)
        | some q =>
          rw [hx] at h1
          have hlt : fi < s.1.length := by
            rcases Nat.lt_or_ge fi s.1.length with z | z
            · exact z
            · rw [List.getElem?_eq_none z] at hx
              exact absurd hx (by simp)
          refine pk_eq (s.1.length - fi) 0 (fun z => absurd z (by omega)) (fun _ => ?_)
          refine tp_deliver hG' M hq hfi hb (by omega) (by omega) (by omega) (by omega) (by omega) hx h1 (fun u' h => ?_)
          have := ih C1 (r + 1) u' h2 (by omega) h
          obtain ⟨yop, yst, yvo, yhe, yns, ynm, ysl, ypa, ytr, ytd, yhp, ycc, yfi, ywa, yse, ylo, b1, b2, b3, b4, b5, b6, b7, b8, b9, b10, b11, b12, b13, b14, b15, b16⟩ := u'
          exact nm_r (nI_1 r) this
    · rw [if_neg cg] at hr
      exact absurd hr (by simp)
end
section
/-! shortenLogs, startCommit, the whole commit between idle pictures -/
def tp_sh (lg : Nat → List tp_Ent) : Nat → List tp_Ent := fun m => if 40 < (lg m).length then [] else lg m
theorem tp_sh20 {post : St1 → Prop} {J : Int32 → (Nat → Int32) → (Nat → Int32) → (Nat → Int32) → (Nat → Int32) → (Nat → Int32) → (Nat → Int32) → (Nat → Int32) → (Nat → Int32) → (Nat → Int32) → (Nat → Int32) → (Nat → Int32) → (Nat → Int32) → (Nat → Int32) → (Nat → Int32) → (Nat → Int32) → (Nat → Int32) → Prop} {xop xst xvo xhe xns xnm xsl xpa xtr xtd xhp xcc xfi xwa xse xlo : Int32} {a1 a2 a3 a4 a5 a6 a7 a8 a9 a10 a11 a12 a13 a14 a15 a16 : Nat → Int32} {m k n : Nat} (hk : k < 12)
    (H : wX_shortenLogs_20 post J (nI m) xop xst xvo xhe xns xnm xsl xpa xtr xtd xhp xcc xfi xwa xse xlo n (nI (k + 3)) (upd a1 k (a7 k)) a2 a3 a4 a5 a6 a7 a8 a9 a10 a11 a12 a13 a14 a15 a16) : wX_shortenLogs_20 post J (nI m) xop xst xvo xhe xns xnm xsl xpa xtr xtd xhp xcc xfi xwa xse xlo (n + 1) (nI k) a1 a2 a3 a4 a5 a6 a7 a8 a9 a10 a11 a12 a13 a14 a15 a16 := by
  refine pk_le 12 k (fun z => absurd z (by omega)) (fun _ => ⟨pk_in k 12 hk, pk_in k 12 hk, ?_⟩)
  exact nm_r (by rw [nI_clamp (show k < 2 ^ 31 by omega)]) (nm_r (nI_add k 3) H)
theorem tp_sh_in {post : St1 → Prop} {J : Int32 → (Nat → Int32) → (Nat → Int32) → (Nat → Int32) → (Nat → Int32) → (Nat → Int32) → (Nat → Int32) → (Nat → Int32) → (Nat → Int32) → (Nat → Int32) → (Nat → Int32) → (Nat → Int32) → (Nat → Int32) → (Nat → Int32) → (Nat → Int32) → (Nat → Int32) → (Nat → Int32) → Prop} {xop xst xvo xhe xns xnm xsl xpa xtr xtd xhp xcc xfi xwa xse xlo : Int32} {a1 a2 a3 a4 a5 a6 a7 a8 a9 a10 a11 a12 a13 a14 a15 a16 : Nat → Int32} {m : Nat} (hm : m < 3)
    (H : J (nI (m + 1)) (tp_i7 a7 a1 m) (upd a2 m 0) a3 a4 a5 a6 a7 a8 a9 a10 a11 a12 a13 a14 a15 a16) : ∃ n, wX_shortenLogs_20 post J (nI m) xop xst xvo xhe xns xnm xsl xpa xtr xtd xhp xcc xfi xwa xse xlo n (nI m) a1 a2 a3 a4 a5 a6 a7 a8 a9 a10 a11 a12 a13 a14 a15 a16 := by
  rw [← tp_i7_eq a7 a1 hm] at H
  refine ⟨5, ?_⟩
  refine tp_sh20 (by omega) ?_
  refine tp_sh20 (by omega) ?_
  refine tp_sh20 (by omega) ?_
  refine tp_sh20 (by omega) ?_
  refine pk_le 12 (m + 3 + 3 + 3 + 3) (fun _ => ⟨pk_in m 4 (by omega), ?_⟩) (fun z => absurd z (by omega))
  exact nm_r (by rw [nI_clamp (show m < 2 ^ 31 by omega)]) (nm_r (nI_1 m) H)
def tp_g1 (c : Nat) (a1 a7 : Nat → Int32) (m : Nat) : Nat → Int32 := if 40 < c then tp_i7 a7 a1 m else a1
def tp_g2 (c : Nat) (a2 : Nat → Int32) (m : Nat) : Nat → Int32 := if 40 < c then upd a2 m 0 else a2
theorem tp_sh_step {post : St1 → Prop} {xop xst xvo xhe xns xnm xsl xpa xtr xtd xhp xcc xfi xwa xse xlo : Int32} {a1 a2 a3 a4 a5 a6 a7 a8 a9 a10 a11 a12 a13 a14 a15 a16 : Nat → Int32} {m n c : Nat} (hm : m < 3) (h2 : a2 m = nI c) (hc : c ≤ 64)
    (H : wX_shortenLogs_2 post xop xst xvo xhe xns xnm xsl xpa xtr xtd xhp xcc xfi xwa xse xlo n (nI (m + 1)) (tp_g1 c a1 a7 m) (tp_g2 c a2 m) a3 a4 a5 a6 a7 a8 a9 a10 a11 a12 a13 a14 a15 a16) : wX_shortenLogs_2 post xop xst xvo xhe xns xnm xsl xpa xtr xtd xhp xcc xfi xwa xse xlo (n + 1) (nI m) a1 a2 a3 a4 a5 a6 a7 a8 a9 a10 a11 a12 a13 a14 a15 a16 := by
  unfold tp_g1 tp_g2 at H
  refine pk_le 3 m (fun z => absurd z (by omega)) (fun _ => ⟨pk_in m 4 (by omega), ?_⟩)
  rw [nI_clamp (show m < 2 ^ 31 by omega), h2]
  refine pk_le c 40 (fun z => nm_r (nI_1 m) ?_) (fun z => ?_)
  · rw [if_neg (by omega), if_neg (by omega)] at H
    exact H
  · rw [if_pos z, if_pos z] at H
    exact tp_sh_in hm H
theorem tp_g2_ne {c : Nat} {a2 : Nat → Int32} {m j : Nat} (h : j ≠ m) : tp_g2 c a2 m j = a2 j := by
  unfold tp_g2
  split
  · exact pk_un h
  · rfl
theorem tp_g2_at {c : Nat} {a2 : Nat → Int32} {m : Nat} : tp_g2 c a2 m m = if 40 < c then 0 else a2 m := by
  unfold tp_g2
  split
  · exact pk_us
  · rfl
theorem tp_g1_ne {c : Nat} {a1 a7 : Nat → Int32} {m k : Nat} (h : k % 3 ≠ m) : tp_g1 c a1 a7 m k = a1 k := by
  unfold tp_g1 tp_i7
  split
  · exact if_neg (fun z => h z.2)
  · rfl
theorem tp_g1_at {c : Nat} {a1 a7 : Nat → Int32} {m k : Nat} (hk : k < 12) (h : k % 3 = m) : tp_g1 c a1 a7 m k = if 40 < c then a7 k else a1 k := by
  unfold tp_g1 tp_i7
  split
  · exact if_pos ⟨hk, h⟩
  · rfl
theorem tp_shorten {post : St1 → Prop} {xop xst xvo xhe xns xnm xsl xpa xtr xtd xhp xcc xfi xwa xse xlo : Int32} {a1 a2 a3 a4 a5 a6 a7 a8 a9 a10 a11 a12 a13 a14 a15 a16 : Nat → Int32} {lg1 : Nat → List tp_Ent} (hl : tp_LAs lg1 a2 a3 a4 a5 a6)
    (H : ∀ b1 b2, (∀ k, k < 12 → b1 k = if 40 < (lg1 (k % 3)).length then a7 k else a1 k) → tp_LAs (tp_sh lg1) b2 a3 a4 a5 a6 → post (xop, xst, xvo, xhe, xns, xnm, xsl, xpa, xtr, xtd, xhp, xcc, xfi, xwa, xse, xlo, b1, b2, a3, a4, a5, a6, a7, a8, a9, a10, a11, a12, a13, a14, a15, a16)) : wpX_shortenLogs post (xop, xst, xvo, xhe, xns, xnm, xsl, xpa, xtr, xtd, xhp, xcc, xfi, xwa, xse, xlo, a1, a2, a3, a4, a5, a6, a7, a8, a9, a10, a11, a12, a13, a14, a15, a16) := by
  show ∃ n, wX_shortenLogs_2 post xop xst xvo xhe xns xnm xsl xpa xtr xtd xhp xcc xfi xwa xse xlo n 0 a1 a2 a3 a4 a5 a6 a7 a8 a9 a10 a11 a12 a13 a14 a15 a16
  have l0 := hl 0 (by omega)
  have l1 := hl 1 (by omega)
  have l2 := hl 2 (by omega)
  have l3 := hl 3 (by omega)
  refine ⟨4, ?_⟩
  refine tp_sh_step (m := 0) (c := (lg1 0).length) (by omega) l0.1.1 l0.2.1 ?_
  refine tp_sh_step (m := 1) (c := (lg1 1).length) (by omega) (by rw [tp_g2_ne (by omega)]; exact l1.1.1) l1.2.1 ?_
  refine tp_sh_step (m := 2) (c := (lg1 2).length) (by omega) (by rw [tp_g2_ne (by omega), tp_g2_ne (by omega)]; exact l2.1.1) l2.2.1 ?_
  refine pk_le 3 3 (fun _ => ?_) (fun z => absurd z (by omega))
  have h1 : ∀ k, k < 12 → tp_g1 (lg1 2).length (tp_g1 (lg1 1).length (tp_g1 (lg1 0).length a1 a7 0) a7 1) a7 2 k = if 40 < (lg1 (k % 3)).length then a7 k else a1 k := by
    intro k hk
    have : k % 3 = 0 ∨ k % 3 = 1 ∨ k % 3 = 2 := by omega
    rcases this with e | e | e
    · rw [tp_g1_ne (by omega), tp_g1_ne (by omega), tp_g1_at hk e, e]
    · rw [tp_g1_ne (by omega), tp_g1_at hk e, tp_g1_ne (by omega), e]
    · rw [tp_g1_at hk e, tp_g1_ne (by omega), tp_g1_ne (by omega), e]
  have key : ∀ b2 : Nat → Int32, (∀ j, j < 4 → b2 j = if 40 < (lg1 j).length then 0 else a2 j) → tp_LAs (tp_sh lg1) b2 a3 a4 a5 a6 := by
    intro b2 hb j hj
    unfold tp_sh
    have hlj := hl j hj
    by_cases c : 40 < (lg1 j).length
    · rw [if_pos c]
      refine ⟨⟨by rw [hb j hj, if_pos c]; rfl, fun i e hx => absurd hx (by simp)⟩, by simp, fun e he => absurd he List.not_mem_nil⟩
    · rw [if_neg c]
      exact ⟨⟨by rw [hb j hj, if_neg c]; exact hlj.1.1, hlj.1.2⟩, hlj.2⟩
  have h3 : tp_g2 (lg1 2).length (tp_g2 (lg1 1).length (tp_g2 (lg1 0).length a2 0) 1) 2 3 = nI (lg1 3).length := by
    rw [tp_g2_ne (by omega), tp_g2_ne (by omega), tp_g2_ne (by omega)]; exact l3.1.1
  have hlow : ∀ j, j < 3 → tp_g2 (lg1 2).length (tp_g2 (lg1 1).length (tp_g2 (lg1 0).length a2 0) 1) 2 j = if 40 < (lg1 j).length then 0 else a2 j := by
    refine tp_lt3 ?_ ?_ ?_
    · rw [tp_g2_ne (by omega), tp_g2_ne (by omega), tp_g2_at]
    · rw [tp_g2_ne (by omega), tp_g2_at, tp_g2_ne (by omega)]
    · rw [tp_g2_at, tp_g2_ne (by omega), tp_g2_ne (by omega)]
  rw [h3]
  have l3b := l3.2.1
  refine pk_le (lg1 3).length 40 (fun z => H _ _ h1 (key _ (fun j hj => ?_))) (fun z => nm_e (H _ _ h1 (key _ (fun j hj => ?_))))
  · by_cases e : j = 3
    · subst e; rw [h3, if_neg (by omega)]; exact l3.1.1.symm
    · exact hlow j (by omega)
  · by_cases e : j = 3
    · subst e; rw [pk_us, if_pos z]
    · rw [pk_un e]; exact hlow j (by omega)
def tp_pf (a8 : Nat → Int32) (sl m : Nat) : Nat → Bool := fun j => decide (j < m) && tp_hit a8 j sl
theorem tp_sc_step {post : St1 → Prop} {xop xst xvo xhe xns xnm xsl xtr xtd xhp xcc xfi xwa xse xlo : Int32} {a1 a2 a3 a4 a5 a6 a7 a8 a9 a10 a11 a12 a13 a14 a15 a16 : Nat → Int32} {m n sl : Nat} (hv : tp_V8 a8) (hm : m < 3) (hs : sl < 4)
    (H : wX_startCommit_30 post (nI sl) xop xst xvo xhe xns xnm xsl xtr xtd xhp xcc xfi xwa xse xlo a1 a2 a3 a4 a5 a6 a7 a8 a9 a10 a11 a12 a13 a14 a15 a16 n (nI (m + 1)) (nI (tp_of (tp_pf a8 sl (m + 1))))) : wX_startCommit_30 post (nI sl) xop xst xvo xhe xns xnm xsl xtr xtd xhp xcc xfi xwa xse xlo a1 a2 a3 a4 a5 a6 a7 a8 a9 a10 a11 a12 a13 a14 a15 a16 (n + 1) (nI m) (nI (tp_of (tp_pf a8 sl m))) := by
  refine pk_le 3 m (fun z => absurd z (by omega)) (fun _ => ?_)
  refine tp_holdersOn hv hm ?_
  have ht := tp_of_tst (tp_hit a8 m) sl hs
  cases hh : tp_hit a8 m sl
  · refine br_t (ht.mpr hh) (nm_r ?_ (nm_r (nI_1 m) H))
    rw [show nI (tp_of (tp_pf a8 sl m)) ||| 0 = nI (tp_of (tp_pf a8 sl m)) from tp_bext (fun i hi => by rw [tp_bor, tp_b0, Bool.or_false])]
    rw [tp_of_cg (fun j hj => ?_)]
    unfold tp_pf
    by_cases e : j = m
    · subst e; simp [hh]
    · have : (j < m + 1) ↔ (j < m) := by omega
      simp [this]
  · refine br_f (fun z => absurd (ht.mp z) (by rw [hh]; simp)) (nm_r ?_ (nm_r (nI_1 m) H))
    rw [tp_of_set _ m (by omega)]
    rw [tp_of_cg (fun j hj => ?_)]
    unfold tp_ub tp_pf
    by_cases e : j = m
    · subst e; simp [hh]
    · have : (j < m + 1) ↔ (j < m) := by omega
      simp [this, e]
theorem tp_startCommit {post : St1 → Prop} {xop xst xvo xhe xnm xsl xpa xtr xtd xhp xcc xfi xwa xse xlo : Int32} {a1 a2 a3 a4 a5 a6 a7 a8 a9 a10 a11 a12 a13 a14 a15 a16 : Nat → Int32} {sl nm : Nat} (hv : tp_V8 a8) (hs : sl < 4)
    (H : post (xop, 1, 0, 0, nI (nm + 1), nI (nm + 1), nI sl, nI (tp_of (tp_pf a8 sl 3)), xtr, xtd, 0, xcc, 0, 0, 0, 0, a1, a2, a3, a4, a5, a6, a7, a8, a9, a10, a11, a12, a13, a14, a15, a16)) : wpX_startCommit post (xop, xst, xvo, xhe, nI nm, xnm, xsl, xpa, xtr, xtd, xhp, xcc, xfi, xwa, xse, xlo, a1, a2, a3, a4, a5, a6, a7, a8, a9, a10, a11, a12, a13, a14, a15, a16) (nI sl) := by
  refine nm_r (nI_1 nm) ⟨4, ?_⟩
  have h0 : (0 : Int32) = nI (tp_of (tp_pf a8 sl 0)) := by
    rw [tp_of_cg (g := fun _ => false) (fun j _ => by simp [tp_pf])]
    rfl
  have h : wX_startCommit_30 post (nI sl) xop xst xvo xhe (nI (nm + 1)) (nI (nm + 1)) (nI sl) xtr xtd xhp xcc xfi xwa xse xlo a1 a2 a3 a4 a5 a6 a7 a8 a9 a10 a11 a12 a13 a14 a15 a16 4 (nI 0) (nI (tp_of (tp_pf a8 sl 0))) := by
    refine tp_sc_step hv (by omega) hs ?_
    refine tp_sc_step hv (by omega) hs ?_
    refine tp_sc_step hv (by omega) hs ?_
    exact pk_le 3 3 (fun _ => H) (fun z => absurd z (by omega))
  rw [← h0] at h
  exact h
/-! idle pictures -/
abbrev tp_Pic : Type := (Nat → Bool) × (Nat → Int32) × (Nat → Int32) × (Nat → Int32) × (Nat → Int32) × (Nat → Int32) × (Nat → List tp_Ent) × Nat × Int32
def tp_Mt (P : tp_Pic) (u : St1) : Prop := match P, u with
  | (ob, hd, wk, wn, nb, im, lg, nm, cc), (xop, xst, xvo, xhe, xns, xnm, xsl, xpa, xtr, xtd, xhp, xcc, xfi, xwa, xse, xlo, a1, a2, a3, a4, a5, a6, a7, a8, a9, a10, a11, a12, a13, a14, a15, a16) => xop = nI (tp_of ob) ∧ xst = 0 ∧ xns = nI nm ∧ xcc = cc ∧ (∀ k, k < 12 → a1 k = im k) ∧ tp_LAs lg a2 a3 a4 a5 a6 ∧ (∀ k, k < 12 → a7 k = nb k) ∧ (∀ k, k < 12 → a8 k = hd k) ∧ (∀ t, t < 4 → a9 t = wk t) ∧ (∀ t k, t < 4 → k < 12 → tp_bt (wk t) k = true → a10 (t * 12 + k) = wn (t * 12 + k)) ∧ (∀ t m, t < 4 → m < 3 → a11 (t * 3 + m) = 0) ∧ (∀ t m, t < 4 → ob t = true → m < 3 → a12 (t * 3 + m) = 0)
def tp_IP (n : Nat) (P : tp_Pic) : Prop := match P with
  | (ob, hd, wk, wn, nb, im, lg, nm, _) => tp_Inv ob hd wk wn nb im lg nm ∧ nm ≤ n
theorem tp_Mt_V {ob : Nat → Bool} {hd wk wn nb im : Nat → Int32} {lg : Nat → List tp_Ent} {nm : Nat} {a8 : Nat → Int32} (hI : tp_Inv ob hd wk wn nb im lg nm) (h : ∀ k, k < 12 → a8 k = hd k) : tp_V8 a8 := by
  refine tp_V8_cg h (fun k hk => ?_)
  rcases hI.1 k hk with e | ⟨t, ht, e, _⟩
  · exact Or.inl e
  · exact Or.inr ⟨t, ht, e⟩
theorem tp_Mt_el {Q : St1 → Prop} {ob : Nat → Bool} {hd wk wn nb im : Nat → Int32} {lg : Nat → List tp_Ent} {nm : Nat} {xcc : Int32} {u : St1} (h : tp_Mt (ob, hd, wk, wn, nb, im, lg, nm, xcc) u)
    (H : ∀ (xvo xhe xnm xsl xpa xtr xtd xhp xfi xwa xse xlo : Int32) (a1 a2 a3 a4 a5 a6 a7 a8 a9 a10 a11 a12 a13 a14 a15 a16 : Nat → Int32), tp_Mt (ob, hd, wk, wn, nb, im, lg, nm, xcc) (nI (tp_of ob), 0, xvo, xhe, nI nm, xnm, xsl, xpa, xtr, xtd, xhp, xcc, xfi, xwa, xse, xlo, a1, a2, a3, a4, a5, a6, a7, a8, a9, a10, a11, a12, a13, a14, a15, a16) → Q (nI (tp_of ob), 0, xvo, xhe, nI nm, xnm, xsl, xpa, xtr, xtd, xhp, xcc, xfi, xwa, xse, xlo, a1, a2, a3, a4, a5, a6, a7, a8, a9, a10, a11, a12, a13, a14, a15, a16)) : Q u := by
  obtain ⟨xop, xst, xvo, xhe, xns, xnm, xsl, xpa, xtr, xtd, xhp, ycc, xfi, xwa, xse, xlo, a1, a2, a3, a4, a5, a6, a7, a8, a9, a10, a11, a12, a13, a14, a15, a16⟩ := u
  have h' := h
  obtain ⟨e1, e2, e3, e4, _⟩ := h'
  subst e1 e2 e3 e4
  exact H xvo xhe xnm xsl xpa xtr xtd xhp xfi xwa xse xlo a1 a2 a3 a4 a5 a6 a7 a8 a9 a10 a11 a12 a13 a14 a15 a16 h
/-- the picture after a commit that ended with these phases -/
def tp_fob (ob : Nat → Bool) (hd : Nat → Int32) (sl kl : Nat) : Nat → Bool := tp_ub (fun t => ob t && !tp_klf ob hd sl kl t) sl false
def tp_fhd (ob : Nat → Bool) (hd : Nat → Int32) (sl kl : Nat) : Nat → Int32 := fun k => if hd k = nI sl then -1 else if tp_klf ob hd sl kl (hd k).toNatClampNeg = true then -1 else hd k
def tp_fwk (ob : Nat → Bool) (hd wk : Nat → Int32) (sl kl : Nat) : Nat → Int32 := fun t => if t = sl then 0 else if tp_klf ob hd sl kl t = true then 0 else wk t
def tp_fnb (wk wn nb : Nat → Int32) (sl : Nat) (ph : Nat → Nat) : Nat → Int32 := fun k => if ph (k % 3) = 2 ∧ tp_bt (wk sl) k = true then wn (sl * 12 + k) else nb k
def tp_fl1 (wk wn : Nat → Int32) (lg : Nat → List tp_Ent) (sl N : Nat) (ph : Nat → Nat) (de : Nat) : Nat → List tp_Ent := tp_ul (tp_lgK lg N (wk sl) wn sl ph de) 3 (tp_lgK lg N (wk sl) wn sl ph de 3 ++ [(6, N, 0, 0)])
def tp_fim (wk wn nb im : Nat → Int32) (lg : Nat → List tp_Ent) (sl N : Nat) (ph : Nat → Nat) (de : Nat) : Nat → Int32 := fun k => if 40 < (tp_fl1 wk wn lg sl N ph de (k % 3)).length then tp_fnb wk wn nb sl ph k else im k
def tp_fin (ob : Nat → Bool) (hd wk wn nb im : Nat → Int32) (lg : Nat → List tp_Ent) (sl N : Nat) (ph : Nat → Nat) (de kl : Nat) (cc : Int32) : tp_Pic :=
  (tp_fob ob hd sl kl, tp_fhd ob hd sl kl, tp_fwk ob hd wk sl kl, wn, tp_fnb wk wn nb sl ph, tp_fim wk wn nb im lg sl N ph de, tp_sh (tp_fl1 wk wn lg sl N ph de), N, cc + nI de)
theorem tp_fin_inv {ob : Nat → Bool} {hd wk wn nb im : Nat → Int32} {lg : Nat → List tp_Ent} {sl N : Nat} {nm pa tr td de kl : Nat} {ph : Nat → Nat} {cc : Int32} (hG : tp_G ob hd wk wn nb im lg sl N nm pa tr td) (hp : ∀ m, m < 3 → ¬ (ph m = 1 ∨ ph m = 6)) : tp_IP N (tp_fin ob hd wk wn nb im lg sl N ph de kl cc) := by
  obtain ⟨hs, hob, hI, hN, hN2, hpa, htr, htd, hpt⟩ := hG
  have hI' := hI
  obtain ⟨i1, i2, i3, i4, i5, i6, i7⟩ := hI
  refine ⟨⟨fun k hk => ?_, fun t ht => ?_, fun t k ht hk hb => ?_, fun t k ht hk hb => ?_, fun k hk => ?_, fun m hm => ?_, fun m hm => ?_⟩, Nat.le_refl _⟩
  · unfold tp_fhd
    by_cases c : hd k = nI sl
    · rw [if_pos c]; exact Or.inl rfl
    · rw [if_neg c]
      by_cases c2 : tp_klf ob hd sl kl (hd k).toNatClampNeg = true
      · rw [if_pos c2]; exact Or.inl rfl
      · rw [if_neg c2]
        rcases i1 k hk with e | ⟨t, ht, e, ho⟩
        · exact Or.inl e
        · refine Or.inr ⟨t, ht, e, ?_⟩
          have hne : t ≠ sl := fun z => c (by rw [e, z])
          rw [e, nI_clamp (by omega)] at c2
          unfold tp_fob tp_ub
          rw [if_neg hne]
          show (ob t && !tp_klf ob hd sl kl t) = true
          rw [ho]
          simpa using c2
  · unfold tp_fwk
    by_cases e : t = sl
    · rw [if_pos e]; exact ⟨tp_W12_0, fun _ => rfl⟩
    · rw [if_neg e]
      by_cases c2 : tp_klf ob hd sl kl t = true
      · rw [if_pos c2]; exact ⟨tp_W12_0, fun _ => rfl⟩
      · rw [if_neg c2]
        refine ⟨(i2 t ht).1, fun z => (i2 t ht).2 ?_⟩
        unfold tp_fob tp_ub at z
        rw [if_neg e] at z
        have c3 : tp_klf ob hd sl kl t = false := by simpa using c2
        have z' : (ob t && !tp_klf ob hd sl kl t) = false := z
        rw [c3] at z'
        simpa using z'
  · unfold tp_fwk at hb
    by_cases e : t = sl
    · rw [if_pos e, tp_b0] at hb; exact absurd hb (by simp)
    · rw [if_neg e] at hb
      by_cases c2 : tp_klf ob hd sl kl t = true
      · rw [if_pos c2, tp_b0] at hb; exact absurd hb (by simp)
      · rw [if_neg c2] at hb
        have h := i3 t k ht hk hb
        unfold tp_fhd
        have hne : ¬ nI t = nI sl := fun z => e (tp_ni (by omega) (by omega) z)
        rw [h, if_neg hne, nI_clamp (by omega), if_neg c2]
  · unfold tp_fwk at hb
    by_cases e : t = sl
    · rw [if_pos e, tp_b0] at hb; exact absurd hb (by simp)
    · rw [if_neg e] at hb
      by_cases c2 : tp_klf ob hd sl kl t = true
      · rw [if_pos c2, tp_b0] at hb; exact absurd hb (by simp)
      · rw [if_neg c2] at hb
        exact i4 t k ht hk hb
  · unfold tp_fnb
    by_cases c : ph (k % 3) = 2 ∧ tp_bt (wk sl) k = true
    · rw [if_pos c]; exact i4 sl k hs hk c.2
    · rw [if_neg c]; exact i5 k hk
  · unfold tp_sh
    by_cases c : 40 < (tp_fl1 wk wn lg sl N ph de m).length
    · rw [if_pos c]
      exact ⟨by simp, fun e he => absurd he List.not_mem_nil⟩
    · rw [if_neg c]
      refine ⟨by omega, fun e he => ?_⟩
      unfold tp_fl1 tp_ul at he
      by_cases e3 : m = 3
      · subst e3
        rw [if_pos rfl] at he
        unfold tp_lgK at he
        rw [if_pos rfl] at he
        rcases List.mem_append.mp he with z | z
        · rcases List.mem_append.mp z with z | z
          · have := (i6 3 (by omega)).2 e z
            exact ⟨this.1, by omega, this.2.2.1, this.2.2.2⟩
          · by_cases cd : de = 1
            · rw [if_pos cd] at z
              rw [List.mem_singleton.mp z]
              exact ⟨by show 5 < 16; omega, Nat.le_refl _, by show 0 < 12; omega, fun q => absurd q (by show ¬ 5 = 1; omega)⟩
            · rw [if_neg cd] at z
              exact absurd z List.not_mem_nil
        · rw [List.mem_singleton.mp z]
          exact ⟨by show 6 < 16; omega, Nat.le_refl _, by show 0 < 12; omega, fun q => absurd q (by show ¬ 6 = 1; omega)⟩
      · rw [if_neg e3] at he
        have hk := tp_lgK_key hI' (show m < 3 by omega) e he
        unfold tp_lgK at he
        rw [if_neg e3] at he
        rcases List.mem_append.mp he with z | z
        · have := (i6 m hm).2 e z
          exact ⟨this.1, by omega, this.2.2.1, hk⟩
        · have := tp_cu_mem (show m < 3 by omega) z
          exact ⟨this.1, by omega, this.2.2.2.1, hk⟩
  · have hne : ¬ m = 3 := by omega
    have hf : tp_fl1 wk wn lg sl N ph de m = tp_lgK lg N (wk sl) wn sl ph de m := by
      unfold tp_fl1 tp_ul
      rw [if_neg hne]
    unfold tp_sh
    by_cases c : 40 < (tp_fl1 wk wn lg sl N ph de m).length
    · rw [if_pos c]
      refine ⟨rfl, fun k hk hkm => ?_⟩
      show tp_fim wk wn nb im lg sl N ph de k = _
      unfold tp_fim
      rw [hkm, if_pos c]
    · rw [if_neg c]
      refine ⟨by rw [hf, tp_lgK_op hI' hm, if_neg (hp m hm)], fun k hk hkm => ?_⟩
      have : tp_fim wk wn nb im lg sl N ph de k = im k := by
        unfold tp_fim
        rw [hkm, if_neg c]
      rw [this, hf, tp_lgK_rp hI' hN hm hk hkm]
      unfold tp_fnb
      rw [hkm]
theorem tp_finish {post : Int32 → St1 → Prop} {ob : Nat → Bool} {hd wk wn nb im : Nat → Int32} {lg : Nat → List tp_Ent} {sl N : Nat} {nm pa tr td st vo he hp de kl fi : Nat} {ph : Nat → Nat} {s : tp_Ms} {xcc : Int32} {u : St1} (hG : tp_G ob hd wk wn nb im lg sl N nm pa tr td) (hde : de ≤ 1) (hM : tp_CM ob hd wk wn nb im lg sl N pa tr td xcc (st, vo, he, hp, ph, de, kl, fi, s) u)
    (H : ∀ r u', tp_Mt (tp_fin ob hd wk wn nb im lg sl N ph de kl xcc) u' → post r u') : tp_u114 post (nI sl) u := by
  obtain ⟨hs, hob, hI, hN, hN2, hpa, htr, htd, hpt⟩ := hG
  refine tp_CM_el (P := fun u => tp_u114 post (nI sl) u) hM (fun xop a1 a2 a3 a4 a5 a6 a7 a8 a9 a10 a11 a12 a13 a14 a15 a16 hfi M hq => ?_)
  have hL := M.2.2.1 3 (by omega)
  have h5 := tp_has5 (sl := sl) (N := N) (ph := ph) (de := de) hI hN
  have hlen := tp_lgK_len (sl := sl) (N := N) hI ph de (show 3 < 4 by omega)
  have hnm : ¬ (-1 : Int32) = nI sl := fun z => tp_m1 (show sl < 16 by omega) z.symm
  have fin : ∀ z0 : Int32, z0 = nI de → wX_commit_132 post (nI sl) z0 xop (nI st) (nI vo) (nI he) (nI N) (nI N) (nI sl) (nI pa) (nI tr) (nI td) (nI hp) xcc (nI fi) (nI (s.1.length - fi)) (nI s.2.1) (nI s.2.2) a1 a2 a3 a4 a5 a6 a7 a8 a9 a10 a11 a12 a13 a14 a15 a16 := by
    intro z0 hz
    unfold wX_commit_132
    refine tp_log (m := 3) (e := (6, N, 0, 0)) (by omega) M.2.2.1 (by omega) ⟨by show 6 < 16; omega, hN2, by show 0 < 12; omega⟩ (fun b2 b3 b4 b5 b6 hl => ?_)
    refine tp_rollBack (f := fun t => ob t && !tp_klf ob hd sl kl t) (tp_MD_V hI hs M) hs (tp_MD_W hI hs M sl hs) M.1 ?_
    refine nm_e ?_
    refine tp_shorten hl (fun c1 c2 h1 h2 => ?_)
    obtain ⟨m1, m2, m3, m4, m5, m6, m7, m8, m9, m10, m11, m12⟩ := M
    refine H _ _ ⟨rfl, rfl, rfl, by rw [hz], fun k hk => ?_, h2, fun k hk => ?_, fun k hk => ?_, fun t ht => ?_, fun t k ht hk hb => ?_, fun t j ht hj => ?_, fun t j ht ho hj => ?_⟩
    · rw [h1 k hk]
      show _ = tp_fim wk wn nb im lg sl N ph de k
      unfold tp_fim tp_fl1
      rw [m2 k hk, m4 k hk]
      rfl
    · exact m4 k hk
    · show (if k < 12 ∧ a8 k = nI sl then -1 else a8 k) = tp_fhd ob hd sl kl k
      rw [m5 k hk]
      unfold tp_hdK tp_fhd
      by_cases c : hd k = nI sl
      · rw [if_pos c, if_pos c]
        by_cases c2 : ph (k % 3) = 0 ∨ ph (k % 3) = 1 ∨ (ph (k % 3) = 6 ∧ tp_bt (wk sl) k = true)
        · rw [if_pos c2, if_pos ⟨hk, rfl⟩]
        · rw [if_neg c2]; split <;> rfl
      · rw [if_neg c, if_neg c]
        by_cases c2 : tp_klf ob hd sl kl (hd k).toNatClampNeg = true
        · rw [if_pos c2]; split <;> rfl
        · rw [if_neg c2, if_neg (fun z => c z.2)]
    · unfold tp_fwk
      by_cases e : t = sl
      · rw [if_pos e, e, pk_us]
      · rw [if_neg e, pk_un e]; exact m6 t ht e
    · unfold tp_fwk at hb
      by_cases e : t = sl
      · rw [if_pos e, tp_b0] at hb; exact absurd hb (by simp)
      · rw [if_neg e] at hb
        by_cases c2 : tp_klf ob hd sl kl t = true
        · rw [if_pos c2, tp_b0] at hb; exact absurd hb (by simp)
        · rw [if_neg c2] at hb; exact m8 t k ht hk hb
    · show (if (t * 3 + j) / 3 = sl then 0 else a11 (t * 3 + j)) = 0
      by_cases e : t = sl
      · rw [if_pos (by omega)]
      · rw [if_neg (by omega)]; exact m10 t j ht e hj
    · unfold tp_fob tp_ub at ho
      by_cases e : t = sl
      · rw [if_pos e] at ho; exact absurd ho (by simp)
      · rw [if_neg e] at ho
        have ho' : (ob t && !tp_klf ob hd sl kl t) = true := ho
        exact m12 t j ht e (by
          cases q : ob t
          · rw [q] at ho'; exact absurd ho' (by simp)
          · rfl) hj
  unfold tp_u114 wX_commit_114
  refine tp_isLogged (m := 3) (kd := 5) (by omega) hL.1 hL.2 (by omega) hN2 (fun c => br_t rfl (fin 0 ?_)) (fun c => br_f (by decide) (fin 1 ?_))
  · rw [h5] at c
    have c' : ¬ de = 1 := by simpa using c
    rw [show de = 0 by omega]
    rfl
  · rw [h5] at c
    have c' : de = 1 := by simpa using c
    rw [c']
    rfl
end
section
/-! commit as a step between pictures -/
theorem tp_run_grd {pa tr td : Nat} {Cf : tp_Ct} : ∀ (n : Nat) (C : tp_Ct), tp_run pa tr td n C = some Cf → tp_grd pa Cf = true := by
  intro n
  induction n with
  | zero => intro C h; exact absurd h (by unfold tp_run; simp)
  | succ n ih =>
    intro C h
    unfold tp_run at h
    by_cases cg : tp_grd pa C = true
    · rw [if_pos cg] at h
      by_cases co : tp_ovr pa C = true
      · rw [if_pos co] at h
        rw [← Option.some.inj h]
        exact cg
      · rw [if_neg co] at h
        obtain ⟨C1, _, h2⟩ := Option.bind_eq_some_iff.mp h
        exact ih C1 h2
    · rw [if_neg cg] at h
      exact absurd h (by simp)
theorem tp_c68 {post : Int32 → St1 → Prop} {xop xcc : Int32} {a1 a2 a3 a4 a5 a6 a7 a8 a9 a10 a11 a12 a13 a14 a15 a16 : Nat → Int32} {ob : Nat → Bool} {hd wk wn nb im : Nat → Int32} {lg : Nat → List tp_Ent} {sl N : Nat} {nm pa tr td st vo he hp de kl fi : Nat} {ph : Nat → Nat} {s : tp_Ms}  {Cf : tp_Ct} {x1 : Int32} (hG : tp_G ob hd wk wn nb im lg sl N nm pa tr td) (M : tp_MD ob hd wk wn nb im lg sl N ph de kl xop a1 a2 a3 a4 a5 a6 a7 a8 a9 a10 a11 a12) (hq : tp_MQ N fi s.1 a13 a14 a15 a16) (hfi : fi ≤ s.1.length) (hb : s.1.length ≤ 55 ∧ s.2.1 < 10000 ∧ s.2.2 < 900) (hst : 1 ≤ st ∧ st < 4) (hvo : vo < 8) (hhe : he < 8) (hhp : hp ≤ 1) (hde : de ≤ 1) (hC : (tp_cD pa tr td (st, vo, he, hp, ph, de, kl, fi, s)).bind (tp_run pa tr td 40) = some Cf)
    (H : ∀ u', tp_CM ob hd wk wn nb im lg sl N pa tr td xcc Cf u' → tp_u114 post x1 u') : wX_commit_68 post x1 xop (nI st) (nI vo) (nI he) (nI N) (nI N) (nI sl) (nI pa) (nI tr) (nI td) (nI hp) xcc (nI fi) (nI (s.1.length - fi)) (nI s.2.1) (nI s.2.2) a1 a2 a3 a4 a5 a6 a7 a8 a9 a10 a11 a12 a13 a14 a15 a16 := by
  obtain ⟨C1, h1, h2⟩ := Option.bind_eq_some_iff.mp hC
  unfold wX_commit_68
  refine tp_decC hG M hq hfi hb hst hvo hhe hhp hde h1 (fun u' h => ?_)
  have := tp_rounds hG H 40 C1 0 u' h2 (by omega) h
  obtain ⟨yop, yst, yvo, yhe, yns, ynm, ysl, ypa, ytr, ytd, yhp, ycc, yfi, ywa, yse, ylo, b1, b2, b3, b4, b5, b6, b7, b8, b9, b10, b11, b12, b13, b14, b15, b16⟩ := u'
  exact ⟨40, this⟩
theorem tp_hit_cg {a b : Nat → Int32} {m t : Nat} (hm : m < 3) (h : ∀ k, k < 12 → a k = b k) : tp_hit a m t = tp_hit b m t := by
  unfold tp_hit
  rw [h m (by omega), h (m + 3) (by omega), h (m + 6) (by omega), h (m + 9) (by omega)]
theorem tp_of_tb (f : Nat → Bool) : ∀ m, m < 4 → (tp_of f).testBit m = f m := by
  have key : ∀ b0 b1 b2 b3 : Bool, let n := (if b0 then 1 else 0) + (if b1 then 2 else 0) + (if b2 then 4 else 0) + (if b3 then 8 else 0)
      (n.testBit 0 = b0 ∧ n.testBit 1 = b1 ∧ n.testBit 2 = b2 ∧ n.testBit 3 = b3) := by decide +kernel
  have k := key (f 0) (f 1) (f 2) (f 3)
  exact tp_lt4 k.1 k.2.1 k.2.2.1 k.2.2.2
theorem tp_pf_lt (a : Nat → Int32) (sl : Nat) : tp_of (tp_pf a sl 3) < 8 := by
  have h3 : tp_pf a sl 3 3 = false := by simp [tp_pf]
  unfold tp_of
  rw [h3]
  split <;> split <;> split <;> simp
theorem tp_MD_0 {ob : Nat → Bool} {hd wk wn nb im : Nat → Int32} {lg : Nat → List tp_Ent} {sl N : Nat} {nm : Nat} {a1 a2 a3 a4 a5 a6 a7 a8 a9 a10 a11 a12 : Nat → Int32} (hI : tp_Inv ob hd wk wn nb im lg nm) (hs : sl < 4)
    (h1 : ∀ k, k < 12 → a1 k = im k) (h2 : tp_LAs lg a2 a3 a4 a5 a6) (h7 : ∀ k, k < 12 → a7 k = nb k) (h8 : ∀ k, k < 12 → a8 k = hd k) (h9 : ∀ t, t < 4 → a9 t = wk t)
    (h10 : ∀ t k, t < 4 → k < 12 → tp_bt (wk t) k = true → a10 (t * 12 + k) = wn (t * 12 + k)) (h11 : ∀ t m, t < 4 → m < 3 → a11 (t * 3 + m) = 0) (h12 : ∀ t m, t < 4 → ob t = true → m < 3 → a12 (t * 3 + m) = 0) (hob : ob sl = true) :
    tp_MD ob hd wk wn nb im lg sl N (fun _ => 0) 0 0 (nI (tp_of ob)) a1 a2 a3 a4 a5 a6 a7 a8 a9 a10 a11 a12 := by
  refine ⟨?_, h1, tp_LAs_cg (fun j hj => ?_) h2, fun k hk => ?_, fun k hk => ?_, fun t ht hne => ?_, ⟨?_, fun k hk => ?_⟩, h10, fun m hm => ?_, fun t m ht hne hm => h11 t m ht hm, fun m hm => ⟨fun _ => h12 sl m hs hob hm, fun z => absurd z (by show ¬ 0 = 5; omega)⟩, fun t m ht hne ho hm => h12 t m ht ho hm⟩
  · rw [tp_of_cg (fun t _ => ?_)]
    rw [tp_klf_0]; simp
  · unfold tp_lgK tp_cu
    by_cases e : j = 3
    · rw [if_pos e, if_neg (by omega), e]; simp
    · rw [if_neg e]; simp
  · rw [h7 k hk]; simp
  · rw [h8 k hk]
    unfold tp_hdK
    by_cases c : hd k = nI sl
    · rw [if_pos c, if_pos (Or.inl rfl), c]
    · rw [if_neg c, if_neg (by rw [tp_klf_0]; simp)]
  · rw [h9 t ht, tp_klf_0]; simp
  · rw [h9 sl hs]; exact (hI.2.1 sl hs).1
  · rw [h9 sl hs]; simp
  · rw [h11 sl m hs hm]; simp
theorem tp_IP_mono {n n' : Nat} {P : tp_Pic} (h : tp_IP n P) (hn : n ≤ n') : tp_IP n' P := by
  obtain ⟨ob, hd, wk, wn, nb, im, lg, nm, cc⟩ := P
  exact ⟨h.1, Nat.le_trans h.2 hn⟩
/-- P leads to P' by a call: from every state that matches P it ends, in a state that matches P' -/
def tp_To (W : (Int32 → St1 → Prop) → St1 → Prop) (P P' : tp_Pic) : Prop := ∀ u, tp_Mt P u → ∀ post : Int32 → St1 → Prop, (∀ r u', tp_Mt P' u' → post r u') → W post u
theorem tp_commitG {n sl tr td : Nat} {ob : Nat → Bool} {hd wk wn nb im : Nat → Int32} {lg : Nat → List tp_Ent} {nm : Nat} {xcc : Int32} (hP : tp_IP n (ob, hd, wk, wn, nb, im, lg, nm, xcc)) (hn : n < 100000) (hs : sl < 4) (hob : ob sl = true) (htr : tr < 8) (htd : td < 3) :
    ∃ P', tp_IP (n + 1) P' ∧ tp_To (fun post u => wpX_commit post u (nI sl) (nI tr) (nI td)) (ob, hd, wk, wn, nb, im, lg, nm, xcc) P' := by
  obtain ⟨hI, hnm⟩ := hP
  have hck := tp_chk_all (tp_of (tp_pf hd sl 3)) (tp_pf_lt hd sl) tr htr td htd
  generalize hpa : tp_of (tp_pf hd sl 3) = pa at hck
  have hpa8 : pa < 8 := by rw [← hpa]; exact tp_pf_lt hd sl
  have hG : tp_G ob hd wk wn nb im lg sl (nm + 1) nm pa tr td := by
    refine ⟨hs, hob, hI, rfl, by omega, hpa8, htr, htd, fun m hm => ?_⟩
    rw [← hpa, tp_of_tb _ m (by omega)]
    unfold tp_pf
    simp [hm]
  unfold tp_chk at hck
  cases hall : tp_all pa tr td with
  | none => rw [hall] at hck; exact absurd hck (by simp)
  | some Cf =>
    rw [hall] at hck
    have hfok : tp_fok Cf = true := hck
    unfold tp_all at hall
    obtain ⟨C1, hc1, hrun⟩ := Option.bind_eq_some_iff.mp hall
    have hgrd := tp_run_grd 40 C1 hrun
    obtain ⟨st, vo, he, hp, ph, de, kl, fi, s⟩ := Cf
    have hde : de ≤ 1 := by
      unfold tp_grd at hgrd
      have := of_decide_eq_true hgrd
      omega
    have hph : ∀ m, m < 3 → ¬ (ph m = 1 ∨ ph m = 6) := by
      unfold tp_fok at hfok
      have := of_decide_eq_true hfok
      exact tp_lt3 (by omega) (by omega) (by omega)
    refine ⟨tp_fin ob hd wk wn nb im lg sl (nm + 1) ph de kl xcc, tp_IP_mono (tp_fin_inv hG hph) (by omega), ?_⟩
    intro u hu post H
    refine tp_Mt_el (Q := fun u => wpX_commit post u (nI sl) (nI tr) (nI td)) hu (fun xvo xhe xnm xsl xpa xtr xtd xhp xfi xwa xse xlo a1 a2 a3 a4 a5 a6 a7 a8 a9 a10 a11 a12 a13 a14 a15 a16 hM => ?_)
    obtain ⟨_, _, _, _, h1, h2, h7, h8, h9, h10, h11, h12⟩ := hM
    have M0 : tp_MD ob hd wk wn nb im lg sl (nm + 1) (fun _ => 0) 0 0 (nI (tp_of ob)) a1 a2 a3 a4 a5 a6 a7 a8 a9 a10 a11 a12 := tp_MD_0 hI hs h1 h2 h7 h8 h9 h10 h11 h12 hob
    have hF : ∀ u', tp_CM ob hd wk wn nb im lg sl (nm + 1) pa tr td xcc (st, vo, he, hp, ph, de, kl, fi, s) u' → tp_u114 post (nI sl) u' := fun u' h => tp_finish hG hde h H
    obtain ⟨C0, hc0, hcd⟩ := Option.bind_eq_some_iff.mp hc1
    have hq0 : tp_MQ (nm + 1) 0 [] a13 a14 a15 a16 := fun i q _ hx => absurd hx (by simp)
    have hcd' : (tp_cD pa tr td C0).bind (tp_run pa tr td 40) = some (st, vo, he, hp, ph, de, kl, fi, s) := by
      rw [hcd]
      exact hrun
    unfold wpX_commit
    refine tp_isOpen (f := ob) hs rfl (fun z => absurd z (by rw [hob]; simp)) (fun _ => br_f (by decide) ?_)
    refine pk_lt tr 0 (fun z => absurd z (by omega)) (fun _ => ?_)
    refine pk_lt 7 tr (fun z => absurd z (by omega)) (fun _ => ?_)
    refine pk_lt td 0 (fun z => absurd z (by omega)) (fun _ => ?_)
    refine pk_lt td 3 (fun _ => ?_) (fun z => absurd z (by omega))
    refine tp_startCommit (tp_Mt_V hI h8) hs ?_
    rw [show tp_of (tp_pf a8 sl 3) = pa from by
      rw [← hpa]
      refine tp_of_cg (fun j _ => ?_)
      unfold tp_pf
      by_cases e : j < 3
      · rw [tp_hit_cg e h8]
      · simp [e]]
    unfold tp_ini at hc0
    have hb0 : (([] : List (Nat × Nat × Nat)), 0, 0).1.length ≤ 55 ∧ (([] : List (Nat × Nat × Nat)), 0, 0).2.1 < 10000 ∧ (([] : List (Nat × Nat × Nat)), 0, 0).2.2 < 900 := by decide
    have go : ¬ (pa.testBit td = false ∧ tr = 1) → wX_commit_68 post (nI sl) (nI (tp_of ob)) (nI 1) (nI 0) (nI 0) (nI (nm + 1)) (nI (nm + 1)) (nI sl) (nI pa) (nI tr) (nI td) (nI 0) xcc (nI 0) (nI 0) (nI 0) (nI 0) a1 a2 a3 a4 a5 a6 a7 a8 a9 a10 a11 a12 a13 a14 a15 a16 := by
      intro c
      rw [if_neg c] at hc0
      have := Option.some.inj hc0
      subst this
      exact tp_c68 (st := 1) (vo := 0) (he := 0) (hp := 0) (fi := 0) (s := ([], 0, 0)) hG M0 hq0 (by decide) hb0 (by omega) (by omega) (by omega) (by omega) (by omega) hcd' hF
    refine tp_isPartN htd hpa8 (fun c => br_t rfl ?_) (fun c => br_f (by decide) (go (fun z => absurd z.1 (by rw [c]; simp))))
    refine tp_strikes (w := 1) (x := td) (hp := 0) (by omega) (by omega) htr (by omega) (by omega) (fun cs => br_f (by decide) ?_) (fun cs => br_t rfl (go (fun z => cs ⟨z.2, rfl, rfl⟩)))
    rw [if_pos ⟨c, cs.1⟩] at hc0
    obtain ⟨ph', e⟩ := tp_cCr_inv hc0
    refine tp_crashC (st := 1) (vo := 0) (he := 0) (hp := 1) (fi := 0) (s := ([], 0, 0)) hG M0 hq0 (by decide) hb0 (by omega) (by omega) (by omega) (by omega) (by omega) htd hc0 (fun r u' h => ?_)
    rw [e] at h hcd'
    refine tp_CM_el (P := fun u => match u with | (xop, xst, xvo, xhe, xns, xnm, xsl, xpa, xtr, xtd, xhp, xcc, xfi, xwa, xse, xlo, a1, a2, a3, a4, a5, a6, a7, a8, a9, a10, a11, a12, a13, a14, a15, a16) => wX_commit_68 post (nI sl) xop xst xvo xhe xns xnm xsl xpa xtr xtd xhp xcc xfi xwa xse xlo a1 a2 a3 a4 a5 a6 a7 a8 a9 a10 a11 a12 a13 a14 a15 a16) h (fun yop b1 b2 b3 b4 b5 b6 b7 b8 b9 b10 b11 b12 b13 b14 b15 b16 f1 f2 f3 => ?_)
    exact tp_c68 (st := 1) (vo := 0) (he := 0) (hp := 1) (fi := 0) (s := ([], 0, 0)) hG f2 f3 f1 hb0 (by omega) (by omega) (by omega) (by omega) (by omega) hcd' hF
end
section
/-! begin, get, put, move, abort, crash between idle pictures -/
theorem tp_ix4 (x : Int32) : (x < 0 ∨ 4 ≤ x) ∨ ∃ t, t < 4 ∧ x = nI t := by
  rcases pk_ix x (show 4 < 2 ^ 31 by omega) with h | h | h
  · exact Or.inl (Or.inl h)
  · exact Or.inl (Or.inr h)
  · exact Or.inr h
theorem tp_ix12n (x : Int32) : (x < 0 ∨ 12 ≤ x) ∨ ∃ t, t < 12 ∧ x = nI t := by
  rcases pk_ix x (show 12 < 2 ^ 31 by omega) with h | h | h
  · exact Or.inl (Or.inl h)
  · exact Or.inl (Or.inr h)
  · exact Or.inr h
theorem tp_isKey {post : Int32 → Prop} {k : Nat} (hk : k < 12) (H : post 1) : wpX_isKey post () (nI k) := by
  refine pk_lt k 0 (fun z => absurd z (by omega)) (fun _ => ?_)
  exact pk_le 12 k (fun z => absurd z (by omega)) (fun _ => H)
theorem tp_isKeyX {post : Int32 → Prop} {x : Int32} (h : x < 0 ∨ 12 ≤ x) (H : post 0) : wpX_isKey post () x := by
  rcases h with h | h
  · exact br_t h H
  · exact br_c (fun _ => H) (fun _ => br_t h H)
theorem tp_isNumber {post : Int32 → Prop} {x : Int32} (H1 : tp_inR x → post 1) (H0 : ¬ tp_inR x → post 0) : wpX_isNumber post () x := by
  refine br_c (fun z => H0 (fun q => q.1 z)) (fun z => br_c (fun z2 => H0 (fun q => q.2 z2)) (fun z2 => H1 ⟨z, z2⟩))
theorem tp_isFree {post : Int32 → Prop} {xop xst xvo xhe xns xnm xsl xpa xtr xtd xhp xcc xfi xwa xse xlo : Int32} {a1 a2 a3 a4 a5 a6 a7 a8 a9 a10 a11 a12 a13 a14 a15 a16 : Nat → Int32} {t k : Nat} {x : Int32} (hk : k < 12) (h8 : a8 k = x) (H1 : x = -1 ∨ x = nI t → post 1) (H0 : ¬ (x = -1 ∨ x = nI t) → post 0) : wpX_isFree post (xop, xst, xvo, xhe, xns, xnm, xsl, xpa, xtr, xtd, xhp, xcc, xfi, xwa, xse, xlo, a1, a2, a3, a4, a5, a6, a7, a8, a9, a10, a11, a12, a13, a14, a15, a16) (nI t) (nI k) := by
  refine And.intro (pk_in k 12 hk) ?_
  rw [nI_clamp (show k < 2 ^ 31 by omega), h8]
  exact br_c (fun z => H1 (Or.inl z)) (fun z => ⟨pk_in k 12 hk, br_c (fun z2 => H1 (Or.inr z2)) (fun z2 => H0 (fun q => q.elim z z2))⟩)
def tp_sn (wk wn nb : Nat → Int32) (t k : Nat) : Int32 := if tp_bt (wk t) k = true then wn (t * 12 + k) else nb k
theorem tp_seen {post : Int32 → Prop} {xop xst xvo xhe xns xnm xsl xpa xtr xtd xhp xcc xfi xwa xse xlo : Int32} {a1 a2 a3 a4 a5 a6 a7 a8 a9 a10 a11 a12 a13 a14 a15 a16 : Nat → Int32} {t k : Nat} {w : Int32} (ht : t < 4) (hk : k < 12) (h9 : a9 t = w) (H0 : tp_bt w k = false → post (a7 k)) (H1 : tp_bt w k = true → post (a10 (t * 12 + k))) : wpX_seen post (xop, xst, xvo, xhe, xns, xnm, xsl, xpa, xtr, xtd, xhp, xcc, xfi, xwa, xse, xlo, a1, a2, a3, a4, a5, a6, a7, a8, a9, a10, a11, a12, a13, a14, a15, a16) (nI t) (nI k) := by
  unfold wpX_seen
  refine And.intro (pk_in t 4 ht) ?_
  rw [nI_clamp (show t < 2 ^ 31 by omega), h9]
  have htst := tp_tst (x := w) (n := k) (by omega)
  cases hb : tp_bt w k
  · refine br_t (htst.mpr hb) (br_t rfl ⟨pk_in k 12 hk, ?_⟩)
    rw [nI_clamp (show k < 2 ^ 31 by omega)]
    exact H0 hb
  · refine br_f (fun z => absurd (htst.mp z) (by rw [hb]; simp)) (br_f (by decide) ⟨pk_in (t * 12 + k) 48 (by omega) tp_ix12, ?_⟩)
    rw [tp_ix12, nI_clamp (show t * 12 + k < 2 ^ 31 by omega)]
    exact H1 hb
theorem tp_seenM {post : Int32 → Prop} {xop xst xvo xhe xns xnm xsl xpa xtr xtd xhp xcc xfi xwa xse xlo : Int32} {a1 a2 a3 a4 a5 a6 a7 a8 a9 a10 a11 a12 a13 a14 a15 a16 : Nat → Int32} {wk wn nb : Nat → Int32} {t k : Nat} (ht : t < 4) (hk : k < 12) (h7 : a7 k = nb k) (h9 : a9 t = wk t) (h10 : tp_bt (wk t) k = true → a10 (t * 12 + k) = wn (t * 12 + k)) (H : post (tp_sn wk wn nb t k)) : wpX_seen post (xop, xst, xvo, xhe, xns, xnm, xsl, xpa, xtr, xtd, xhp, xcc, xfi, xwa, xse, xlo, a1, a2, a3, a4, a5, a6, a7, a8, a9, a10, a11, a12, a13, a14, a15, a16) (nI t) (nI k) := by
  unfold tp_sn at H
  refine tp_seen ht hk h9 (fun z => ?_) (fun z => ?_)
  · rw [if_neg (by rw [z]; simp)] at H
    rw [h7]; exact H
  · rw [if_pos z] at H
    rw [h10 z]; exact H
theorem tp_sn_R {ob : Nat → Bool} {hd wk wn nb im : Nat → Int32} {lg : Nat → List tp_Ent} {nm : Nat} {t k : Nat} (hI : tp_Inv ob hd wk wn nb im lg nm) (ht : t < 4) (hk : k < 12) : tp_inR (tp_sn wk wn nb t k) := by
  unfold tp_sn
  by_cases c : tp_bt (wk t) k = true
  · rw [if_pos c]; exact hI.2.2.2.1 t k ht hk c
  · rw [if_neg c]; exact hI.2.2.2.2.1 k hk
/-! pictures after a key is taken, after a key is written -/
theorem tp_Inv_hold {ob : Nat → Bool} {hd wk wn nb im : Nat → Int32} {lg : Nat → List tp_Ent} {nm : Nat} {t k : Nat} (hI : tp_Inv ob hd wk wn nb im lg nm) (ht : t < 4) (hk : k < 12) (ho : ob t = true) (hf : hd k = -1 ∨ hd k = nI t) : tp_Inv ob (upd hd k (nI t)) wk wn nb im lg nm := by
  obtain ⟨i1, i2, i3, i4, i5, i6, i7⟩ := hI
  refine ⟨fun j hj => ?_, i2, fun t' j ht' hj hb => ?_, i4, i5, i6, i7⟩
  · by_cases e : j = k
    · rw [e, pk_us]; exact Or.inr ⟨t, ht, rfl, ho⟩
    · rw [pk_un e]; exact i1 j hj
  · have h := i3 t' j ht' hj hb
    by_cases e : j = k
    · subst e
      rw [pk_us]
      rcases hf with q | q
      · exact absurd (q.symm.trans h) (fun z => tp_m1 (show t' < 16 by omega) z.symm)
      · rw [← q, h]
    · rw [pk_un e]; exact h
theorem tp_Inv_write {ob : Nat → Bool} {hd wk wn nb im : Nat → Int32} {lg : Nat → List tp_Ent} {nm : Nat} {t k : Nat} {v : Int32} (hI : tp_Inv ob hd wk wn nb im lg nm) (ht : t < 4) (hk : k < 12) (ho : ob t = true) (hf : hd k = -1 ∨ hd k = nI t) (hv : tp_inR v) : tp_Inv ob (upd hd k (nI t)) (upd wk t (tp_se (wk t) k)) (upd wn (t * 12 + k) v) nb im lg nm := by
  obtain ⟨i1, i2, i3, i4, i5, i6, i7⟩ := tp_Inv_hold hI ht hk ho hf
  have hw := (hI.2.1 t ht).1
  refine ⟨i1, fun t' ht' => ?_, fun t' j ht' hj hb => ?_, fun t' j ht' hj hb => ?_, i5, i6, i7⟩
  · by_cases e : t' = t
    · rw [e, pk_us]; exact ⟨tp_se_W hw hk, fun z => absurd z (by rw [ho]; simp)⟩
    · rw [pk_un e]; exact i2 t' ht'
  · by_cases e : t' = t
    · subst e
      rw [pk_us, tp_se_bt hw hk] at hb
      by_cases e2 : j = k
      · subst e2; exact pk_us
      · exact i3 t' j ht' hj (by simpa [e2] using hb)
    · rw [pk_un e] at hb
      exact i3 t' j ht' hj hb
  · by_cases e : t' = t
    · subst e
      rw [pk_us, tp_se_bt hw hk] at hb
      by_cases e2 : j = k
      · subst e2; rw [pk_us]; exact hv
      · rw [pk_un (by omega)]; exact i4 t' j ht' hj (by simpa [e2] using hb)
    · rw [pk_un e] at hb
      rw [pk_un (by omega)]
      exact i4 t' j ht' hj hb
theorem tp_Mt_hold {xvo xhe xnm xsl xpa xtr xtd xhp xcc xfi xwa xse xlo : Int32} {a1 a2 a3 a4 a5 a6 a7 a8 a9 a10 a11 a12 a13 a14 a15 a16 : Nat → Int32} {ob : Nat → Bool} {hd wk wn nb im : Nat → Int32} {lg : Nat → List tp_Ent} {nm : Nat} {t k : Nat} (hM : tp_Mt (ob, hd, wk, wn, nb, im, lg, nm, xcc) (nI (tp_of ob), 0, xvo, xhe, nI nm, xnm, xsl, xpa, xtr, xtd, xhp, xcc, xfi, xwa, xse, xlo, a1, a2, a3, a4, a5, a6, a7, a8, a9, a10, a11, a12, a13, a14, a15, a16)) : tp_Mt (ob, upd hd k (nI t), wk, wn, nb, im, lg, nm, xcc) (nI (tp_of ob), 0, xvo, xhe, nI nm, xnm, xsl, xpa, xtr, xtd, xhp, xcc, xfi, xwa, xse, xlo, a1, a2, a3, a4, a5, a6, a7, upd a8 k (nI t), a9, a10, a11, a12, a13, a14, a15, a16) := by
  obtain ⟨e1, e2, e3, e4, h1, h2, h7, h8, h9, h10, h11, h12⟩ := hM
  refine ⟨e1, e2, e3, e4, h1, h2, h7, fun j hj => ?_, h9, h10, h11, h12⟩
  by_cases e : j = k
  · rw [e, pk_us, pk_us]
  · rw [pk_un e, pk_un e]; exact h8 j hj
theorem tp_Mt_write {xvo xhe xnm xsl xpa xtr xtd xhp xcc xfi xwa xse xlo : Int32} {a1 a2 a3 a4 a5 a6 a7 a8 a9 a10 a11 a12 a13 a14 a15 a16 : Nat → Int32} {ob : Nat → Bool} {hd wk wn nb im : Nat → Int32} {lg : Nat → List tp_Ent} {nm : Nat} {t k : Nat} {v : Int32} (hI : tp_Inv ob hd wk wn nb im lg nm) (ht : t < 4) (hk : k < 12) (hM : tp_Mt (ob, hd, wk, wn, nb, im, lg, nm, xcc) (nI (tp_of ob), 0, xvo, xhe, nI nm, xnm, xsl, xpa, xtr, xtd, xhp, xcc, xfi, xwa, xse, xlo, a1, a2, a3, a4, a5, a6, a7, a8, a9, a10, a11, a12, a13, a14, a15, a16)) : tp_Mt (ob, upd hd k (nI t), upd wk t (tp_se (wk t) k), upd wn (t * 12 + k) v, nb, im, lg, nm, xcc) (nI (tp_of ob), 0, xvo, xhe, nI nm, xnm, xsl, xpa, xtr, xtd, xhp, xcc, xfi, xwa, xse, xlo, a1, a2, a3, a4, a5, a6, a7, upd a8 k (nI t), upd a9 t (tp_se (a9 t) k), upd a10 (t * 12 + k) v, a11, a12, a13, a14, a15, a16) := by
  obtain ⟨e1, e2, e3, e4, h1, h2, h7, h8, h9, h10, h11, h12⟩ := tp_Mt_hold (t := t) (k := k) hM
  have hw := (hI.2.1 t ht).1
  refine ⟨e1, e2, e3, e4, h1, h2, h7, h8, fun t' ht' => ?_, fun t' j ht' hj hb => ?_, h11, h12⟩
  · by_cases e : t' = t
    · rw [e, pk_us, pk_us, h9 t ht]
    · rw [pk_un e, pk_un e]; exact h9 t' ht'
  · by_cases e : t' = t
    · subst e
      rw [pk_us, tp_se_bt hw hk] at hb
      by_cases e2 : j = k
      · subst e2; rw [pk_us, pk_us]
      · rw [pk_un (by omega), pk_un (by omega)]; exact h10 t' j ht' hj (by simpa [e2] using hb)
    · rw [pk_un e] at hb
      rw [pk_un (by omega), pk_un (by omega)]
      exact h10 t' j ht' hj hb
theorem tp_getG {post : Int32 → St1 → Prop} {xvo xhe xnm xsl xpa xtr xtd xhp xcc xfi xwa xse xlo : Int32} {a1 a2 a3 a4 a5 a6 a7 a8 a9 a10 a11 a12 a13 a14 a15 a16 : Nat → Int32} {ob : Nat → Bool} {hd wk wn nb im : Nat → Int32} {lg : Nat → List tp_Ent} {nm : Nat} {t k : Nat} (hI : tp_Inv ob hd wk wn nb im lg nm) (ht : t < 4) (hk : k < 12) (ho : ob t = true) (hM : tp_Mt (ob, hd, wk, wn, nb, im, lg, nm, xcc) (nI (tp_of ob), 0, xvo, xhe, nI nm, xnm, xsl, xpa, xtr, xtd, xhp, xcc, xfi, xwa, xse, xlo, a1, a2, a3, a4, a5, a6, a7, a8, a9, a10, a11, a12, a13, a14, a15, a16))
    (H1 : hd k = -1 ∨ hd k = nI t → ∀ u', tp_Mt (ob, upd hd k (nI t), wk, wn, nb, im, lg, nm, xcc) u' → post (tp_sn wk wn nb t k) u')
    (H0 : ¬ (hd k = -1 ∨ hd k = nI t) → post (-300000) (nI (tp_of ob), 0, xvo, xhe, nI nm, xnm, xsl, xpa, xtr, xtd, xhp, xcc, xfi, xwa, xse, xlo, a1, a2, a3, a4, a5, a6, a7, a8, a9, a10, a11, a12, a13, a14, a15, a16)) : wpX_get post (nI (tp_of ob), 0, xvo, xhe, nI nm, xnm, xsl, xpa, xtr, xtd, xhp, xcc, xfi, xwa, xse, xlo, a1, a2, a3, a4, a5, a6, a7, a8, a9, a10, a11, a12, a13, a14, a15, a16) (nI t) (nI k) := by
  have hM' := hM
  obtain ⟨_, _, _, _, h1, h2, h7, h8, h9, h10, h11, h12⟩ := hM
  unfold wpX_get
  refine tp_isOpen (f := ob) ht rfl (fun z => absurd z (by rw [ho]; simp)) (fun _ => br_f (by decide) ?_)
  refine tp_isKey hk (br_f (by decide) ?_)
  refine tp_isFree hk (h8 k hk) (fun z => br_f (by decide) ?_) (fun z => br_t rfl (H0 z))
  refine ⟨pk_in k 12 hk, nm_r (e' := upd a8 k (nI t)) (by rw [nI_clamp (show k < 2 ^ 31 by omega), tp_by t (by omega)]) ?_⟩
  exact tp_seenM ht hk (h7 k hk) (h9 t ht) (h10 t k ht hk) (H1 z _ (tp_Mt_hold hM'))
theorem tp_putG {post : Int32 → St1 → Prop} {xvo xhe xnm xsl xpa xtr xtd xhp xcc xfi xwa xse xlo : Int32} {a1 a2 a3 a4 a5 a6 a7 a8 a9 a10 a11 a12 a13 a14 a15 a16 : Nat → Int32} {ob : Nat → Bool} {hd wk wn nb im : Nat → Int32} {lg : Nat → List tp_Ent} {nm : Nat} {t k : Nat} {v : Int32} (hI : tp_Inv ob hd wk wn nb im lg nm) (ht : t < 4) (hk : k < 12) (ho : ob t = true) (hv : tp_inR v) (hM : tp_Mt (ob, hd, wk, wn, nb, im, lg, nm, xcc) (nI (tp_of ob), 0, xvo, xhe, nI nm, xnm, xsl, xpa, xtr, xtd, xhp, xcc, xfi, xwa, xse, xlo, a1, a2, a3, a4, a5, a6, a7, a8, a9, a10, a11, a12, a13, a14, a15, a16))
    (H1 : hd k = -1 ∨ hd k = nI t → ∀ u', tp_Mt (ob, upd hd k (nI t), upd wk t (tp_se (wk t) k), upd wn (t * 12 + k) v, nb, im, lg, nm, xcc) u' → post (tp_sn wk wn nb t k) u')
    (H0 : ¬ (hd k = -1 ∨ hd k = nI t) → post (-300000) (nI (tp_of ob), 0, xvo, xhe, nI nm, xnm, xsl, xpa, xtr, xtd, xhp, xcc, xfi, xwa, xse, xlo, a1, a2, a3, a4, a5, a6, a7, a8, a9, a10, a11, a12, a13, a14, a15, a16)) : wpX_put post (nI (tp_of ob), 0, xvo, xhe, nI nm, xnm, xsl, xpa, xtr, xtd, xhp, xcc, xfi, xwa, xse, xlo, a1, a2, a3, a4, a5, a6, a7, a8, a9, a10, a11, a12, a13, a14, a15, a16) (nI t) (nI k) v := by
  have hM' := hM
  obtain ⟨_, _, _, _, h1, h2, h7, h8, h9, h10, h11, h12⟩ := hM
  unfold wpX_put
  refine tp_isOpen (f := ob) ht rfl (fun z => absurd z (by rw [ho]; simp)) (fun _ => br_f (by decide) ?_)
  refine tp_isKey hk (br_f (by decide) ?_)
  refine tp_isNumber (fun _ => br_f (by decide) ?_) (fun z => absurd hv z)
  refine tp_isFree hk (h8 k hk) (fun z => br_f (by decide) ?_) (fun z => br_t rfl (H0 z))
  refine tp_seenM ht hk (h7 k hk) (h9 t ht) (h10 t k ht hk) ?_
  exact tp_writeKey ht hk (H1 z _ (tp_Mt_write hI ht hk hM'))
/-- calls that are refused -/
theorem tp_getX {post : Int32 → St1 → Prop} {xvo xhe xnm xsl xpa xtr xtd xhp xcc xfi xwa xse xlo : Int32} {a1 a2 a3 a4 a5 a6 a7 a8 a9 a10 a11 a12 a13 a14 a15 a16 : Nat → Int32} {ob : Nat → Bool}   {nm : Nat} {x y : Int32} (h : (x < 0 ∨ 4 ≤ x) ∨ (∃ t, t < 4 ∧ x = nI t ∧ ob t = false) ∨ (y < 0 ∨ 12 ≤ y)) (H : post (-100000) (nI (tp_of ob), 0, xvo, xhe, nI nm, xnm, xsl, xpa, xtr, xtd, xhp, xcc, xfi, xwa, xse, xlo, a1, a2, a3, a4, a5, a6, a7, a8, a9, a10, a11, a12, a13, a14, a15, a16)) : wpX_get post (nI (tp_of ob), 0, xvo, xhe, nI nm, xnm, xsl, xpa, xtr, xtd, xhp, xcc, xfi, xwa, xse, xlo, a1, a2, a3, a4, a5, a6, a7, a8, a9, a10, a11, a12, a13, a14, a15, a16) x y := by
  unfold wpX_get
  rcases tp_ix4 x with hx | ⟨t, ht, hx⟩
  · exact tp_isOpenX hx (br_t rfl H)
  · subst hx
    refine tp_isOpen (f := ob) ht rfl (fun _ => br_t rfl H) (fun ho => br_f (by decide) ?_)
    rcases h with h | ⟨t', ht', e, ho'⟩ | h
    · rcases h with h | h
      · exact absurd h (nI_pos (by omega))
      · exact absurd h (nI_ge (b := 4) ht (by decide))
    · rw [← tp_ni (show t < 2 ^ 31 by omega) (by omega) e, ho] at ho'
      exact absurd ho' (by simp)
    · exact tp_isKeyX h (br_t rfl H)
theorem tp_putX {post : Int32 → St1 → Prop} {xvo xhe xnm xsl xpa xtr xtd xhp xcc xfi xwa xse xlo : Int32} {a1 a2 a3 a4 a5 a6 a7 a8 a9 a10 a11 a12 a13 a14 a15 a16 : Nat → Int32} {ob : Nat → Bool}   {nm : Nat} {x y v : Int32} (h : (x < 0 ∨ 4 ≤ x) ∨ (∃ t, t < 4 ∧ x = nI t ∧ ob t = false) ∨ (y < 0 ∨ 12 ≤ y) ∨ ¬ tp_inR v) (H : post (-100000) (nI (tp_of ob), 0, xvo, xhe, nI nm, xnm, xsl, xpa, xtr, xtd, xhp, xcc, xfi, xwa, xse, xlo, a1, a2, a3, a4, a5, a6, a7, a8, a9, a10, a11, a12, a13, a14, a15, a16)) : wpX_put post (nI (tp_of ob), 0, xvo, xhe, nI nm, xnm, xsl, xpa, xtr, xtd, xhp, xcc, xfi, xwa, xse, xlo, a1, a2, a3, a4, a5, a6, a7, a8, a9, a10, a11, a12, a13, a14, a15, a16) x y v := by
  unfold wpX_put
  rcases tp_ix4 x with hx | ⟨t, ht, hx⟩
  · exact tp_isOpenX hx (br_t rfl H)
  · subst hx
    refine tp_isOpen (f := ob) ht rfl (fun _ => br_t rfl H) (fun ho => br_f (by decide) ?_)
    rcases tp_ix12n y with hy | ⟨k, hk, hy⟩
    · exact tp_isKeyX hy (br_t rfl H)
    · subst hy
      refine tp_isKey hk (br_f (by decide) ?_)
      refine tp_isNumber (fun hv => ?_) (fun _ => br_t rfl H)
      rcases h with h | ⟨t', ht', e, ho'⟩ | h | h
      · rcases h with h | h
        · exact absurd h (nI_pos (by omega))
        · exact absurd h (nI_ge (b := 4) ht (by decide))
      · rw [← tp_ni (show t < 2 ^ 31 by omega) (by omega) e, ho] at ho'
        exact absurd ho' (by simp)
      · rcases h with h | h
        · exact absurd h (nI_pos (by omega))
        · exact absurd h (nI_ge (b := 12) hk (by decide))
      · exact absurd hv h
theorem tp_getP {n : Nat} {ob : Nat → Bool} {hd wk wn nb im : Nat → Int32} {lg : Nat → List tp_Ent} {nm : Nat} {xcc : Int32} (hP : tp_IP n (ob, hd, wk, wn, nb, im, lg, nm, xcc)) (x y : Int32) : ∃ P', tp_IP n P' ∧ tp_To (fun post u => wpX_get post u x y) (ob, hd, wk, wn, nb, im, lg, nm, xcc) P' := by
  obtain ⟨hI, hnm⟩ := hP
  by_cases hb : (x < 0 ∨ 4 ≤ x) ∨ (∃ t, t < 4 ∧ x = nI t ∧ ob t = false) ∨ (y < 0 ∨ 12 ≤ y)
  · refine ⟨(ob, hd, wk, wn, nb, im, lg, nm, xcc), ⟨hI, hnm⟩, fun u hu post H => ?_⟩
    exact tp_Mt_el (Q := fun u => wpX_get post u x y) hu (fun xvo xhe xnm xsl xpa xtr xtd xhp xfi xwa xse xlo a1 a2 a3 a4 a5 a6 a7 a8 a9 a10 a11 a12 a13 a14 a15 a16 hM => tp_getX hb (H _ _ hM))
  · rcases tp_ix4 x with hx | ⟨t, ht, hx⟩
    · exact absurd (Or.inl hx) hb
    · rcases tp_ix12n y with hy | ⟨k, hk, hy⟩
      · exact absurd (Or.inr (Or.inr hy)) hb
      · subst hx hy
        have ho : ob t = true := by
          cases q : ob t
          · exact absurd (Or.inr (Or.inl ⟨t, ht, rfl, q⟩)) hb
          · rfl
        by_cases hf : hd k = -1 ∨ hd k = nI t
        · refine ⟨(ob, upd hd k (nI t), wk, wn, nb, im, lg, nm, xcc), ⟨tp_Inv_hold hI ht hk ho hf, hnm⟩, fun u hu post H => ?_⟩
          exact tp_Mt_el (Q := fun u => wpX_get post u (nI t) (nI k)) hu (fun xvo xhe xnm xsl xpa xtr xtd xhp xfi xwa xse xlo a1 a2 a3 a4 a5 a6 a7 a8 a9 a10 a11 a12 a13 a14 a15 a16 hM => tp_getG hI ht hk ho hM (fun _ u' h => H _ u' h) (fun z => absurd hf z))
        · refine ⟨(ob, hd, wk, wn, nb, im, lg, nm, xcc), ⟨hI, hnm⟩, fun u hu post H => ?_⟩
          exact tp_Mt_el (Q := fun u => wpX_get post u (nI t) (nI k)) hu (fun xvo xhe xnm xsl xpa xtr xtd xhp xfi xwa xse xlo a1 a2 a3 a4 a5 a6 a7 a8 a9 a10 a11 a12 a13 a14 a15 a16 hM => tp_getG hI ht hk ho hM (fun z => absurd z hf) (fun _ => H _ _ hM))
theorem tp_putP {n : Nat} {ob : Nat → Bool} {hd wk wn nb im : Nat → Int32} {lg : Nat → List tp_Ent} {nm : Nat} {xcc : Int32} (hP : tp_IP n (ob, hd, wk, wn, nb, im, lg, nm, xcc)) (x y v : Int32) : ∃ P', tp_IP n P' ∧ tp_To (fun post u => wpX_put post u x y v) (ob, hd, wk, wn, nb, im, lg, nm, xcc) P' := by
  obtain ⟨hI, hnm⟩ := hP
  by_cases hb : (x < 0 ∨ 4 ≤ x) ∨ (∃ t, t < 4 ∧ x = nI t ∧ ob t = false) ∨ (y < 0 ∨ 12 ≤ y) ∨ ¬ tp_inR v
  · refine ⟨(ob, hd, wk, wn, nb, im, lg, nm, xcc), ⟨hI, hnm⟩, fun u hu post H => ?_⟩
    exact tp_Mt_el (Q := fun u => wpX_put post u x y v) hu (fun xvo xhe xnm xsl xpa xtr xtd xhp xfi xwa xse xlo a1 a2 a3 a4 a5 a6 a7 a8 a9 a10 a11 a12 a13 a14 a15 a16 hM => tp_putX hb (H _ _ hM))
  · rcases tp_ix4 x with hx | ⟨t, ht, hx⟩
    · exact absurd (Or.inl hx) hb
    · rcases tp_ix12n y with hy | ⟨k, hk, hy⟩
      · exact absurd (Or.inr (Or.inr (Or.inl hy))) hb
      · subst hx hy
        have ho : ob t = true := by
          cases q : ob t
          · exact absurd (Or.inr (Or.inl ⟨t, ht, rfl, q⟩)) hb
          · rfl
        have hv : tp_inR v := by
          by_cases q : tp_inR v
          · exact q
          · exact absurd (Or.inr (Or.inr (Or.inr q))) hb
        by_cases hf : hd k = -1 ∨ hd k = nI t
        · refine ⟨(ob, upd hd k (nI t), upd wk t (tp_se (wk t) k), upd wn (t * 12 + k) v, nb, im, lg, nm, xcc), ⟨tp_Inv_write hI ht hk ho hf hv, hnm⟩, fun u hu post H => ?_⟩
          exact tp_Mt_el (Q := fun u => wpX_put post u (nI t) (nI k) v) hu (fun xvo xhe xnm xsl xpa xtr xtd xhp xfi xwa xse xlo a1 a2 a3 a4 a5 a6 a7 a8 a9 a10 a11 a12 a13 a14 a15 a16 hM => tp_putG hI ht hk ho hv hM (fun _ u' h => H _ u' h) (fun z => absurd hf z))
        · refine ⟨(ob, hd, wk, wn, nb, im, lg, nm, xcc), ⟨hI, hnm⟩, fun u hu post H => ?_⟩
          exact tp_Mt_el (Q := fun u => wpX_put post u (nI t) (nI k) v) hu (fun xvo xhe xnm xsl xpa xtr xtd xhp xfi xwa xse xlo a1 a2 a3 a4 a5 a6 a7 a8 a9 a10 a11 a12 a13 a14 a15 a16 hM => tp_putG hI ht hk ho hv hM (fun z => absurd z hf) (fun _ => H _ _ hM))
end
section
/-! move, begin, abort, crash -/
def tp_wp (P : tp_Pic) (t k : Nat) (v : Int32) : tp_Pic := match P with
  | (ob, hd, wk, wn, nb, im, lg, nm, xcc) => (ob, upd hd k (nI t), upd wk t (tp_se (wk t) k), upd wn (t * 12 + k) v, nb, im, lg, nm, xcc)
def tp_mG (hd wk wn nb : Nat → Int32) (t f g : Nat) (z : Int32) : Prop :=
  f ≠ g ∧ ¬ z < 0 ∧ z ≤ 9999 ∧ (hd f = -1 ∨ hd f = nI t) ∧ (hd g = -1 ∨ hd g = nI t) ∧ tp_inR (tp_sn wk wn nb t f - z) ∧ tp_inR (tp_sn wk wn nb t g + z)
theorem tp_moveW {post : Int32 → St1 → Prop} {xvo xhe xnm xsl xpa xtr xtd xhp xcc xfi xwa xse xlo : Int32} {a1 a2 a3 a4 a5 a6 a7 a8 a9 a10 a11 a12 a13 a14 a15 a16 : Nat → Int32} {ob : Nat → Bool} {hd wk wn nb im : Nat → Int32} {lg : Nat → List tp_Ent} {nm : Nat} {t b : Nat} {z : Int32} (hI : tp_Inv ob hd wk wn nb im lg nm) (ht : t < 4) (ho : ob t = true) (hb : b < 144) (hM : tp_Mt (ob, hd, wk, wn, nb, im, lg, nm, xcc) (nI (tp_of ob), 0, xvo, xhe, nI nm, xnm, xsl, xpa, xtr, xtd, xhp, xcc, xfi, xwa, xse, xlo, a1, a2, a3, a4, a5, a6, a7, a8, a9, a10, a11, a12, a13, a14, a15, a16))
    (Hs : ¬ tp_mG hd wk wn nb t (b % 12) (b / 12) z → ∀ r, post r (nI (tp_of ob), 0, xvo, xhe, nI nm, xnm, xsl, xpa, xtr, xtd, xhp, xcc, xfi, xwa, xse, xlo, a1, a2, a3, a4, a5, a6, a7, a8, a9, a10, a11, a12, a13, a14, a15, a16))
    (Hg : tp_mG hd wk wn nb t (b % 12) (b / 12) z → ∀ r u', tp_Mt (tp_wp (tp_wp (ob, hd, wk, wn, nb, im, lg, nm, xcc) t (b % 12) (tp_sn wk wn nb t (b % 12) - z)) t (b / 12) (tp_sn wk wn nb t (b / 12) + z)) u' → post r u') :
    wpX_move post (nI (tp_of ob), 0, xvo, xhe, nI nm, xnm, xsl, xpa, xtr, xtd, xhp, xcc, xfi, xwa, xse, xlo, a1, a2, a3, a4, a5, a6, a7, a8, a9, a10, a11, a12, a13, a14, a15, a16) (nI t) (nI b) z := by
  have hM' := hM
  obtain ⟨_, _, _, _, h1, h2, h7, h8, h9, h10, h11, h12⟩ := hM
  have hf : b % 12 < 12 := by omega
  have hg : b / 12 < 12 := by omega
  have er : nI b - nI b / 12 * 12 = nI (b % 12) := pk_rem (a := b) (d := 12) (by omega) (by omega) (by omega)
  have ed : nI b / 12 = nI (b / 12) := pk_div (a := b) (d := 12) (by omega) (by omega) (by omega)
  unfold wpX_move
  refine tp_isOpen (f := ob) ht rfl (fun q => absurd q (by rw [ho]; simp)) (fun _ => br_f (by decide) ?_)
  refine pk_lt b 0 (fun q => absurd q (by omega)) (fun _ => ?_)
  refine pk_le 144 b (fun q => absurd q (by omega)) (fun _ => ⟨by decide, by decide, ?_⟩)
  rw [er, ed]
  refine pk_eq (b % 12) (b / 12) (fun q => Hs (fun g => g.1 q) _) (fun q1 => ?_)
  refine br_c (fun q => Hs (fun g => g.2.1 q) _) (fun q2 => ?_)
  refine br_c (fun q3 => ⟨by decide, nm_e ⟨by decide, nm_e ?_⟩⟩) (fun q => Hs (fun g => q g.2.2.1) _)
  refine tp_isFree hf (h8 _ hf) (fun q4 => br_f (by decide) ?_) (fun q => br_t rfl (Hs (fun g => q g.2.2.2.1) _))
  refine tp_isFree hg (h8 _ hg) (fun q5 => br_f (by decide) ?_) (fun q => br_t rfl (Hs (fun g => q g.2.2.2.2.1) _))
  refine tp_seenM ht hf (h7 _ hf) (h9 t ht) (h10 t _ ht hf) (nm_e ?_)
  refine tp_seenM ht hg (h7 _ hg) (h9 t ht) (h10 t _ ht hg) (nm_e ?_)
  refine tp_isNumber (fun q6 => br_f (by decide) ?_) (fun q => br_t rfl (Hs (fun g => q g.2.2.2.2.2.1) _))
  refine tp_isNumber (fun q7 => br_f (by decide) ?_) (fun q => br_t rfl (Hs (fun g => q g.2.2.2.2.2.2) _))
  refine tp_writeKey ht hf ?_
  refine tp_writeKey ht hg ?_
  have i1 := tp_Inv_write hI ht hf ho q4 q6
  exact Hg ⟨q1, q2, q3, q4, q5, q6, q7⟩ _ _ (tp_Mt_write i1 ht hg (tp_Mt_write hI ht hf hM'))
theorem tp_moveX {post : Int32 → St1 → Prop} {xvo xhe xnm xsl xpa xtr xtd xhp xcc xfi xwa xse xlo : Int32} {a1 a2 a3 a4 a5 a6 a7 a8 a9 a10 a11 a12 a13 a14 a15 a16 : Nat → Int32} {ob : Nat → Bool}   {nm : Nat} {x y z : Int32} (h : (x < 0 ∨ 4 ≤ x) ∨ (∃ t, t < 4 ∧ x = nI t ∧ ob t = false) ∨ y < 0 ∨ 144 ≤ y) (H : post (-100000) (nI (tp_of ob), 0, xvo, xhe, nI nm, xnm, xsl, xpa, xtr, xtd, xhp, xcc, xfi, xwa, xse, xlo, a1, a2, a3, a4, a5, a6, a7, a8, a9, a10, a11, a12, a13, a14, a15, a16)) : wpX_move post (nI (tp_of ob), 0, xvo, xhe, nI nm, xnm, xsl, xpa, xtr, xtd, xhp, xcc, xfi, xwa, xse, xlo, a1, a2, a3, a4, a5, a6, a7, a8, a9, a10, a11, a12, a13, a14, a15, a16) x y z := by
  unfold wpX_move
  rcases tp_ix4 x with hx | ⟨t, ht, hx⟩
  · exact tp_isOpenX hx (br_t rfl H)
  · subst hx
    refine tp_isOpen (f := ob) ht rfl (fun _ => br_t rfl H) (fun ho => br_f (by decide) ?_)
    rcases h with h | ⟨t', ht', e, ho'⟩ | h | h
    · rcases h with h | h
      · exact absurd h (nI_pos (by omega))
      · exact absurd h (nI_ge (b := 4) ht (by decide))
    · rw [← tp_ni (show t < 2 ^ 31 by omega) (by omega) e, ho] at ho'
      exact absurd ho' (by simp)
    · exact br_t h H
    · exact br_c (fun _ => H) (fun _ => br_t h H)
theorem tp_moveP {n : Nat} {ob : Nat → Bool} {hd wk wn nb im : Nat → Int32} {lg : Nat → List tp_Ent} {nm : Nat} {xcc : Int32} (hP : tp_IP n (ob, hd, wk, wn, nb, im, lg, nm, xcc)) (x y z : Int32) : ∃ P', tp_IP n P' ∧ tp_To (fun post u => wpX_move post u x y z) (ob, hd, wk, wn, nb, im, lg, nm, xcc) P' := by
  obtain ⟨hI, hnm⟩ := hP
  by_cases hb : (x < 0 ∨ 4 ≤ x) ∨ (∃ t, t < 4 ∧ x = nI t ∧ ob t = false) ∨ y < 0 ∨ 144 ≤ y
  · refine ⟨(ob, hd, wk, wn, nb, im, lg, nm, xcc), ⟨hI, hnm⟩, fun u hu post H => ?_⟩
    exact tp_Mt_el (Q := fun u => wpX_move post u x y z) hu (fun xvo xhe xnm xsl xpa xtr xtd xhp xfi xwa xse xlo a1 a2 a3 a4 a5 a6 a7 a8 a9 a10 a11 a12 a13 a14 a15 a16 hM => tp_moveX hb (H _ _ hM))
  · rcases tp_ix4 x with hx | ⟨t, ht, hx⟩
    · exact absurd (Or.inl hx) hb
    · rcases pk_ix y (show 144 < 2 ^ 31 by omega) with hy | hy | ⟨b, hb144, hy⟩
      · exact absurd (Or.inr (Or.inr (Or.inl hy))) hb
      · exact absurd (Or.inr (Or.inr (Or.inr hy))) hb
      · subst hx hy
        have ho : ob t = true := by
          cases q : ob t
          · exact absurd (Or.inr (Or.inl ⟨t, ht, rfl, q⟩)) hb
          · rfl
        by_cases hg : tp_mG hd wk wn nb t (b % 12) (b / 12) z
        · refine ⟨tp_wp (tp_wp (ob, hd, wk, wn, nb, im, lg, nm, xcc) t (b % 12) (tp_sn wk wn nb t (b % 12) - z)) t (b / 12) (tp_sn wk wn nb t (b / 12) + z), ?_, fun u hu post H => ?_⟩
          · obtain ⟨q1, q2, q3, q4, q5, q6, q7⟩ := hg
            have i1 := tp_Inv_write hI ht (show b % 12 < 12 by omega) ho q4 q6
            exact ⟨tp_Inv_write i1 ht (show b / 12 < 12 by omega) ho (by rw [pk_un (fun z => q1 z.symm)]; exact q5) q7, hnm⟩
          · exact tp_Mt_el (Q := fun u => wpX_move post u (nI t) (nI b) z) hu (fun xvo xhe xnm xsl xpa xtr xtd xhp xfi xwa xse xlo a1 a2 a3 a4 a5 a6 a7 a8 a9 a10 a11 a12 a13 a14 a15 a16 hM => tp_moveW hI ht ho hb144 hM (fun q => absurd hg q) (fun _ r u' h => H r u' h))
        · refine ⟨(ob, hd, wk, wn, nb, im, lg, nm, xcc), ⟨hI, hnm⟩, fun u hu post H => ?_⟩
          exact tp_Mt_el (Q := fun u => wpX_move post u (nI t) (nI b) z) hu (fun xvo xhe xnm xsl xpa xtr xtd xhp xfi xwa xse xlo a1 a2 a3 a4 a5 a6 a7 a8 a9 a10 a11 a12 a13 a14 a15 a16 hM => tp_moveW hI ht ho hb144 hM (fun _ r => H r _ hM) (fun q => absurd q hg))
/-! begin -/
theorem tp_bg36 {post : Int32 → St1 → Prop} {xop xst xvo xhe xns xnm xsl xpa xtr xtd xhp xcc xfi xwa xse xlo : Int32} {a1 a2 a3 a4 a5 a6 a7 a8 a9 a10 a11 a12 a13 a14 a15 a16 : Nat → Int32} {t : Nat} (ht : t < 4) (H : post (nI t) (xop, xst, xvo, xhe, xns, xnm, xsl, xpa, xtr, xtd, xhp, xcc, xfi, xwa, xse, xlo, a1, a2, a3, a4, a5, a6, a7, a8, a9, a10, tp_z3 a11 t, tp_z3 a12 t, a13, a14, a15, a16)) : ∃ n, wX_begin_36 post (nI t) xop xst xvo xhe xns xnm xsl xpa xtr xtd xhp xcc xfi xwa xse xlo n 0 a1 a2 a3 a4 a5 a6 a7 a8 a9 a10 a11 a12 a13 a14 a15 a16 := by
  rw [← tp_z3_eq, ← tp_z3_eq] at H
  have c0 : (nI t * 3 + 0).toNatClampNeg = t * 3 + 0 := by rw [show nI t * 3 + 0 = nI (t * 3 + 0) from tp_ix3, nI_clamp (show t * 3 + 0 < 2 ^ 31 by omega)]
  have c1 : (nI t * 3 + nI 1).toNatClampNeg = t * 3 + 1 := by rw [tp_ix3, nI_clamp (show t * 3 + 1 < 2 ^ 31 by omega)]
  have c2 : (nI t * 3 + nI 2).toNatClampNeg = t * 3 + 2 := by rw [tp_ix3, nI_clamp (show t * 3 + 2 < 2 ^ 31 by omega)]
  refine ⟨4, ?_⟩
  refine pk_le 3 0 (fun z => absurd z (by omega)) (fun _ => ⟨pk_in (t * 3 + 0) 12 (by omega) tp_ix3, nm_r (by rw [c0]) ⟨pk_in (t * 3 + 0) 12 (by omega) tp_ix3, nm_r (by rw [c0]) (nm_r (nI_1 0) ?_)⟩⟩)
  refine pk_le 3 1 (fun z => absurd z (by omega)) (fun _ => ⟨pk_in (t * 3 + 1) 12 (by omega) tp_ix3, nm_r (by rw [c1]) ⟨pk_in (t * 3 + 1) 12 (by omega) tp_ix3, nm_r (by rw [c1]) (nm_r (nI_1 1) ?_)⟩⟩)
  refine pk_le 3 2 (fun z => absurd z (by omega)) (fun _ => ⟨pk_in (t * 3 + 2) 12 (by omega) tp_ix3, nm_r (by rw [c2]) ⟨pk_in (t * 3 + 2) 12 (by omega) tp_ix3, nm_r (by rw [c2]) (nm_r (nI_1 2) ?_)⟩⟩)
  exact pk_le 3 3 (fun _ => H) (fun z => absurd z (by omega))
theorem tp_bg_step {post : Int32 → St1 → Prop} {xop xst xvo xhe xns xnm xsl xpa xtr xtd xhp xcc xfi xwa xse xlo : Int32} {a1 a2 a3 a4 a5 a6 a7 a8 a9 a10 a11 a12 a13 a14 a15 a16 : Nat → Int32} {f : Nat → Bool} {t n : Nat} (ht : t < 4) (ho : xop = nI (tp_of f))
    (H0 : f t = false → post (nI t) (nI (tp_of (tp_ub f t true)), xst, xvo, xhe, xns, xnm, xsl, xpa, xtr, xtd, xhp, xcc, xfi, xwa, xse, xlo, a1, a2, a3, a4, a5, a6, a7, a8, upd a9 t 0, a10, tp_z3 a11 t, tp_z3 a12 t, a13, a14, a15, a16)) (H1 : f t = true → wX_begin_2 post xop xst xvo xhe xns xnm xsl xpa xtr xtd xhp xcc xfi xwa xse xlo a1 a2 a3 a4 a5 a6 a7 a8 a9 a10 a11 a12 a13 a14 a15 a16 n (nI (t + 1))) : wX_begin_2 post xop xst xvo xhe xns xnm xsl xpa xtr xtd xhp xcc xfi xwa xse xlo a1 a2 a3 a4 a5 a6 a7 a8 a9 a10 a11 a12 a13 a14 a15 a16 (n + 1) (nI t) := by
  refine pk_le 4 t (fun z => absurd z (by omega)) (fun _ => ?_)
  refine tp_isOpen (f := f) ht ho (fun z => br_t rfl ?_) (fun z => br_f (by decide) (nm_r (nI_1 t) (H1 z)))
  refine nm_r (e' := nI (tp_of (tp_ub f t true))) (by rw [ho]; exact tp_of_set f t ht) ⟨pk_in t 4 ht, nm_r (e' := upd a9 t 0) (by rw [nI_clamp (show t < 2 ^ 31 by omega)]) ?_⟩
  exact tp_bg36 ht (H0 z)
theorem tp_beginW {post : Int32 → St1 → Prop} {xvo xhe xnm xsl xpa xtr xtd xhp xcc xfi xwa xse xlo : Int32} {a1 a2 a3 a4 a5 a6 a7 a8 a9 a10 a11 a12 a13 a14 a15 a16 : Nat → Int32} {ob : Nat → Bool} {hd wk wn nb im : Nat → Int32} {lg : Nat → List tp_Ent} {nm : Nat} (hI : tp_Inv ob hd wk wn nb im lg nm) (hM : tp_Mt (ob, hd, wk, wn, nb, im, lg, nm, xcc) (nI (tp_of ob), 0, xvo, xhe, nI nm, xnm, xsl, xpa, xtr, xtd, xhp, xcc, xfi, xwa, xse, xlo, a1, a2, a3, a4, a5, a6, a7, a8, a9, a10, a11, a12, a13, a14, a15, a16))
    (Hf : (∀ j, j < 4 → ob j = true) → post (-200000) (nI (tp_of ob), 0, xvo, xhe, nI nm, xnm, xsl, xpa, xtr, xtd, xhp, xcc, xfi, xwa, xse, xlo, a1, a2, a3, a4, a5, a6, a7, a8, a9, a10, a11, a12, a13, a14, a15, a16))
    (Hg : ∀ t, t < 4 → ob t = false → (∀ j, j < t → ob j = true) → ∀ u', tp_Mt (tp_ub ob t true, hd, wk, wn, nb, im, lg, nm, xcc) u' → post (nI t) u') : wpX_begin post (nI (tp_of ob), 0, xvo, xhe, nI nm, xnm, xsl, xpa, xtr, xtd, xhp, xcc, xfi, xwa, xse, xlo, a1, a2, a3, a4, a5, a6, a7, a8, a9, a10, a11, a12, a13, a14, a15, a16) := by
  obtain ⟨_, _, _, _, h1, h2, h7, h8, h9, h10, h11, h12⟩ := hM
  have mt : ∀ t, t < 4 → ob t = false → tp_Mt (tp_ub ob t true, hd, wk, wn, nb, im, lg, nm, xcc) (nI (tp_of (tp_ub ob t true)), 0, xvo, xhe, nI nm, xnm, xsl, xpa, xtr, xtd, xhp, xcc, xfi, xwa, xse, xlo, a1, a2, a3, a4, a5, a6, a7, a8, upd a9 t 0, a10, tp_z3 a11 t, tp_z3 a12 t, a13, a14, a15, a16) := by
    intro t ht ho
    refine ⟨rfl, rfl, rfl, rfl, h1, h2, h7, h8, fun s hs => ?_, h10, fun s m hs hm => ?_, fun s m hs hob hm => ?_⟩
    · by_cases e : s = t
      · rw [e, pk_us]; exact ((hI.2.1 t ht).2 ho).symm
      · rw [pk_un e]; exact h9 s hs
    · show (if (s * 3 + m) / 3 = t then 0 else a11 (s * 3 + m)) = 0
      by_cases e : s = t
      · rw [if_pos (by omega)]
      · rw [if_neg (by omega)]; exact h11 s m hs hm
    · show (if (s * 3 + m) / 3 = t then 0 else a12 (s * 3 + m)) = 0
      by_cases e : s = t
      · rw [if_pos (by omega)]
      · rw [if_neg (by omega)]
        unfold tp_ub at hob
        rw [if_neg e] at hob
        exact h12 s m hs hob hm
  show ∃ n, wX_begin_2 post (nI (tp_of ob)) 0 xvo xhe (nI nm) xnm xsl xpa xtr xtd xhp xcc xfi xwa xse xlo a1 a2 a3 a4 a5 a6 a7 a8 a9 a10 a11 a12 a13 a14 a15 a16 n 0
  refine ⟨5, ?_⟩
  refine tp_bg_step (t := 0) (by omega) rfl (fun z => Hg 0 (by omega) z (fun j hj => absurd hj (by omega)) _ (mt 0 (by omega) z)) (fun z0 => ?_)
  refine tp_bg_step (t := 1) (by omega) rfl (fun z => Hg 1 (by omega) z (fun j hj => ?_) _ (mt 1 (by omega) z)) (fun z1 => ?_)
  · rw [show j = 0 by omega]; exact z0
  refine tp_bg_step (t := 2) (by omega) rfl (fun z => Hg 2 (by omega) z (fun j hj => ?_) _ (mt 2 (by omega) z)) (fun z2 => ?_)
  · have : j = 0 ∨ j = 1 := by omega
    rcases this with e | e <;> subst e <;> assumption
  refine tp_bg_step (t := 3) (by omega) rfl (fun z => Hg 3 (by omega) z (fun j hj => ?_) _ (mt 3 (by omega) z)) (fun z3 => ?_)
  · have : j = 0 ∨ j = 1 ∨ j = 2 := by omega
    rcases this with e | e | e <;> subst e <;> assumption
  exact pk_le 4 4 (fun _ => Hf (tp_lt4 z0 z1 z2 z3)) (fun z => absurd z (by omega))
theorem tp_Inv_open {ob : Nat → Bool} {hd wk wn nb im : Nat → Int32} {lg : Nat → List tp_Ent} {nm : Nat} {t : Nat} (hI : tp_Inv ob hd wk wn nb im lg nm) : tp_Inv (tp_ub ob t true) hd wk wn nb im lg nm := by
  obtain ⟨i1, i2, i3, i4, i5, i6, i7⟩ := hI
  refine ⟨fun k hk => ?_, fun s hs => ⟨(i2 s hs).1, fun z => (i2 s hs).2 ?_⟩, i3, i4, i5, i6, i7⟩
  · rcases i1 k hk with e | ⟨s, hs, e, ho⟩
    · exact Or.inl e
    · refine Or.inr ⟨s, hs, e, ?_⟩
      unfold tp_ub
      by_cases q : s = t
      · rw [if_pos q]
      · rw [if_neg q]; exact ho
  · unfold tp_ub at z
    by_cases q : s = t
    · rw [if_pos q] at z; exact absurd z (by simp)
    · rw [if_neg q] at z; exact z
theorem tp_free4 (ob : Nat → Bool) : (∀ j, j < 4 → ob j = true) ∨ ∃ t, t < 4 ∧ ob t = false ∧ ∀ j, j < t → ob j = true := by
  cases h0 : ob 0
  · exact Or.inr ⟨0, by omega, h0, fun j hj => absurd hj (by omega)⟩
  · cases h1 : ob 1
    · exact Or.inr ⟨1, by omega, h1, fun j hj => by rw [show j = 0 by omega]; exact h0⟩
    · cases h2 : ob 2
      · refine Or.inr ⟨2, by omega, h2, fun j hj => ?_⟩
        have : j = 0 ∨ j = 1 := by omega
        rcases this with e | e <;> subst e <;> assumption
      · cases h3 : ob 3
        · refine Or.inr ⟨3, by omega, h3, fun j hj => ?_⟩
          have : j = 0 ∨ j = 1 ∨ j = 2 := by omega
          rcases this with e | e | e <;> subst e <;> assumption
        · exact Or.inl (tp_lt4 h0 h1 h2 h3)
theorem tp_first_eq {ob : Nat → Bool} {t t' : Nat} (h : ob t = false) (k : ∀ j, j < t → ob j = true) (h' : ob t' = false) (k' : ∀ j, j < t' → ob j = true) : t' = t := by
  rcases Nat.lt_or_ge t' t with z | z
  · rw [k t' z] at h'; exact absurd h' (by simp)
  · rcases Nat.lt_or_ge t t' with y | y
    · rw [k' t y] at h; exact absurd h (by simp)
    · omega
theorem tp_beginP {n : Nat} {ob : Nat → Bool} {hd wk wn nb im : Nat → Int32} {lg : Nat → List tp_Ent} {nm : Nat} {xcc : Int32} (hP : tp_IP n (ob, hd, wk, wn, nb, im, lg, nm, xcc)) : ∃ P', tp_IP n P' ∧ tp_To (fun post u => wpX_begin post u) (ob, hd, wk, wn, nb, im, lg, nm, xcc) P' := by
  obtain ⟨hI, hnm⟩ := hP
  rcases tp_free4 ob with h | ⟨t, ht, h, k⟩
  · refine ⟨(ob, hd, wk, wn, nb, im, lg, nm, xcc), ⟨hI, hnm⟩, fun u hu post H => ?_⟩
    exact tp_Mt_el (Q := fun u => wpX_begin post u) hu (fun xvo xhe xnm xsl xpa xtr xtd xhp xfi xwa xse xlo a1 a2 a3 a4 a5 a6 a7 a8 a9 a10 a11 a12 a13 a14 a15 a16 hM => tp_beginW hI hM (fun _ => H _ _ hM) (fun t ht z _ => absurd (h t ht) (by rw [z]; simp)))
  · refine ⟨(tp_ub ob t true, hd, wk, wn, nb, im, lg, nm, xcc), ⟨tp_Inv_open hI, hnm⟩, fun u hu post H => ?_⟩
    refine tp_Mt_el (Q := fun u => wpX_begin post u) hu (fun xvo xhe xnm xsl xpa xtr xtd xhp xfi xwa xse xlo a1 a2 a3 a4 a5 a6 a7 a8 a9 a10 a11 a12 a13 a14 a15 a16 hM => tp_beginW hI hM (fun z => absurd (z t ht) (by rw [h]; simp)) (fun t' ht' z k' u' h' => ?_))
    rw [tp_first_eq h k z k'] at h' ⊢
    exact H _ u' h'
/-! abort -/
def tp_ct (f : Nat → Bool) : Nat → Nat
  | 0 => 0
  | n + 1 => tp_ct f n + (if f n = true then 1 else 0)
theorem tp_ct_le (f : Nat → Bool) : ∀ n, tp_ct f n ≤ n := by
  intro n
  induction n with
  | zero => exact Nat.le_refl 0
  | succ n ih =>
    unfold tp_ct
    split <;> omega
theorem tp_ct_cg {f g : Nat → Bool} : ∀ n, (∀ k, k < n → f k = g k) → tp_ct f n = tp_ct g n := by
  intro n
  induction n with
  | zero => intro _; rfl
  | succ n ih =>
    intro h
    unfold tp_ct
    rw [ih (fun k hk => h k (by omega)), h n (by omega)]
theorem tp_Inv_abort {ob : Nat → Bool} {hd wk wn nb im : Nat → Int32} {lg : Nat → List tp_Ent} {nm : Nat} {t : Nat} (hI : tp_Inv ob hd wk wn nb im lg nm) (ht : t < 4) : tp_Inv (tp_ub ob t false) (tp_b8 hd t) (upd wk t 0) wn nb im lg nm := by
  obtain ⟨i1, i2, i3, i4, i5, i6, i7⟩ := hI
  have hw : ∀ s k, tp_bt (upd wk t 0 s) k = true → s ≠ t ∧ tp_bt (wk s) k = true := by
    intro s k h
    by_cases e : s = t
    · rw [e, pk_us, tp_b0] at h; exact absurd h (by simp)
    · rw [pk_un e] at h; exact ⟨e, h⟩
  refine ⟨fun k hk => ?_, fun s hs => ?_, fun s k hs hk hb => ?_, fun s k hs hk hb => i4 s k hs hk (hw s k hb).2, i5, i6, i7⟩
  · unfold tp_b8
    by_cases c : k < 12 ∧ hd k = nI t
    · rw [if_pos c]; exact Or.inl rfl
    · rw [if_neg c]
      rcases i1 k hk with e | ⟨s, hs, e, ho⟩
      · exact Or.inl e
      · refine Or.inr ⟨s, hs, e, ?_⟩
        unfold tp_ub
        rw [if_neg (fun q => c ⟨hk, by rw [e, q]⟩)]
        exact ho
  · by_cases e : s = t
    · rw [e, pk_us]; exact ⟨tp_W12_0, fun _ => rfl⟩
    · rw [pk_un e]
      refine ⟨(i2 s hs).1, fun z => (i2 s hs).2 ?_⟩
      unfold tp_ub at z
      rw [if_neg e] at z
      exact z
  · obtain ⟨hne, hb'⟩ := hw s k hb
    have h := i3 s k hs hk hb'
    unfold tp_b8
    rw [if_neg (fun c => hne (tp_ni (by omega) (by omega) (h.symm.trans c.2)))]
    exact h
theorem tp_ab_loop {post : Int32 → St1 → Prop} {xop xst xvo xhe xns xnm xsl xpa xtr xtd xhp xcc xfi xwa xse xlo : Int32} {a1 a2 a3 a4 a5 a6 a7 a8 a9 a10 a11 a12 a13 a14 a15 a16 : Nat → Int32} {t : Nat} (H : wpX_rollBack (fun u => match u with | (xop', xst', xvo', xhe', xns', xnm', xsl', xpa', xtr', xtd', xhp', xcc', xfi', xwa', xse', xlo', a1', a2', a3', a4', a5', a6', a7', a8', a9', a10', a11', a12', a13', a14', a15', a16') => post (nI (tp_ct (fun k => decide (a8 k = nI t)) 12)) (xop', xst', xvo', xhe', xns', xnm', xsl', xpa', xtr', xtd', xhp', xcc', xfi', xwa', xse', xlo', a1', a2', a3', a4', a5', a6', a7', a8', a9', a10', a11', a12', a13', a14', a15', a16')) (xop, xst, xvo, xhe, xns, xnm, xsl, xpa, xtr, xtd, xhp, xcc, xfi, xwa, xse, xlo, a1, a2, a3, a4, a5, a6, a7, a8, a9, a10, a11, a12, a13, a14, a15, a16) (nI t)) :
    ∃ n, wX_abort_15 post (nI t) xop xst xvo xhe xns xnm xsl xpa xtr xtd xhp xcc xfi xwa xse xlo a1 a2 a3 a4 a5 a6 a7 a8 a9 a10 a11 a12 a13 a14 a15 a16 n 0 0 := by
  refine pk_loop (σ := Unit) (fun n k _ => wX_abort_15 post (nI t) xop xst xvo xhe xns xnm xsl xpa xtr xtd xhp xcc xfi xwa xse xlo a1 a2 a3 a4 a5 a6 a7 a8 a9 a10 a11 a12 a13 a14 a15 a16 n (nI (tp_ct (fun k => decide (a8 k = nI t)) k)) (nI k)) (fun _ _ => True) 12 0 () (by omega) trivial ?_ ?_
  · intro n _ _
    exact pk_le 12 12 (fun _ => H) (fun z => absurd z (by omega))
  · intro n k _ hk _ hw
    have hw' := hw () trivial
    have hc := tp_ct_le (fun k => decide (a8 k = nI t)) k
    refine pk_le 12 k (fun z => absurd z (by omega)) (fun _ => ⟨pk_in k 12 hk, ?_⟩)
    rw [nI_clamp (show k < 2 ^ 31 by omega)]
    unfold tp_ct at hw'
    by_cases c : a8 k = nI t
    · rw [if_pos (decide_eq_true c)] at hw'
      exact br_t c (nm_r (nI_1 _) (nm_r (nI_1 k) hw'))
    · rw [if_neg (by simp [c])] at hw'
      exact br_f c (nm_r (nI_add _ 0) (nm_r (nI_1 k) hw'))
theorem tp_abortG {post : Int32 → St1 → Prop} {xvo xhe xnm xsl xpa xtr xtd xhp xcc xfi xwa xse xlo : Int32} {a1 a2 a3 a4 a5 a6 a7 a8 a9 a10 a11 a12 a13 a14 a15 a16 : Nat → Int32} {ob : Nat → Bool} {hd wk wn nb im : Nat → Int32} {lg : Nat → List tp_Ent} {nm : Nat} {t : Nat} (hI : tp_Inv ob hd wk wn nb im lg nm) (ht : t < 4) (ho : ob t = true) (hM : tp_Mt (ob, hd, wk, wn, nb, im, lg, nm, xcc) (nI (tp_of ob), 0, xvo, xhe, nI nm, xnm, xsl, xpa, xtr, xtd, xhp, xcc, xfi, xwa, xse, xlo, a1, a2, a3, a4, a5, a6, a7, a8, a9, a10, a11, a12, a13, a14, a15, a16))
    (H : ∀ u', tp_Mt (tp_ub ob t false, tp_b8 hd t, upd wk t 0, wn, nb, im, lg, nm, xcc) u' → post (nI (tp_ct (fun k => decide (hd k = nI t)) 12)) u') : wpX_abort post (nI (tp_of ob), 0, xvo, xhe, nI nm, xnm, xsl, xpa, xtr, xtd, xhp, xcc, xfi, xwa, xse, xlo, a1, a2, a3, a4, a5, a6, a7, a8, a9, a10, a11, a12, a13, a14, a15, a16) (nI t) := by
  obtain ⟨_, _, _, _, h1, h2, h7, h8, h9, h10, h11, h12⟩ := hM
  unfold wpX_abort
  refine tp_isOpen (f := ob) ht rfl (fun q => absurd q (by rw [ho]; simp)) (fun _ => br_f (by decide) ?_)
  refine tp_ab_loop ?_
  refine tp_rollBack (f := ob) (tp_Mt_V hI h8) ht (by rw [h9 t ht]; exact (hI.2.1 t ht).1) rfl ?_
  show post _ _
  rw [tp_ct_cg (g := fun k => decide (hd k = nI t)) 12 (fun k hk => by rw [h8 k hk])]
  refine H _ ⟨rfl, rfl, rfl, rfl, h1, h2, h7, fun k hk => ?_, fun s hs => ?_, fun s k hs hk hb => ?_, fun s m hs hm => ?_, fun s m hs hob hm => ?_⟩
  · show (if k < 12 ∧ a8 k = nI t then -1 else a8 k) = (if k < 12 ∧ hd k = nI t then -1 else hd k)
    rw [h8 k hk]
  · by_cases e : s = t
    · rw [e, pk_us, pk_us]
    · rw [pk_un e, pk_un e]; exact h9 s hs
  · by_cases e : s = t
    · rw [e, pk_us, tp_b0] at hb; exact absurd hb (by simp)
    · rw [pk_un e] at hb; exact h10 s k hs hk hb
  · show (if (s * 3 + m) / 3 = t then 0 else a11 (s * 3 + m)) = 0
    by_cases e : s = t
    · rw [if_pos (by omega)]
    · rw [if_neg (by omega)]; exact h11 s m hs hm
  · unfold tp_ub at hob
    by_cases e : s = t
    · rw [if_pos e] at hob; exact absurd hob (by simp)
    · rw [if_neg e] at hob; exact h12 s m hs hob hm
theorem tp_abortX {post : Int32 → St1 → Prop} {xvo xhe xnm xsl xpa xtr xtd xhp xcc xfi xwa xse xlo : Int32} {a1 a2 a3 a4 a5 a6 a7 a8 a9 a10 a11 a12 a13 a14 a15 a16 : Nat → Int32} {ob : Nat → Bool}   {nm : Nat} {x : Int32} (h : (x < 0 ∨ 4 ≤ x) ∨ (∃ t, t < 4 ∧ x = nI t ∧ ob t = false)) (H : post (-100000) (nI (tp_of ob), 0, xvo, xhe, nI nm, xnm, xsl, xpa, xtr, xtd, xhp, xcc, xfi, xwa, xse, xlo, a1, a2, a3, a4, a5, a6, a7, a8, a9, a10, a11, a12, a13, a14, a15, a16)) : wpX_abort post (nI (tp_of ob), 0, xvo, xhe, nI nm, xnm, xsl, xpa, xtr, xtd, xhp, xcc, xfi, xwa, xse, xlo, a1, a2, a3, a4, a5, a6, a7, a8, a9, a10, a11, a12, a13, a14, a15, a16) x := by
  unfold wpX_abort
  rcases h with h | ⟨t, ht, e, ho⟩
  · exact tp_isOpenX h (br_t rfl H)
  · subst e
    exact tp_isOpen (f := ob) ht rfl (fun _ => br_t rfl H) (fun z => absurd z (by rw [ho]; simp))
theorem tp_abortP {n : Nat} {ob : Nat → Bool} {hd wk wn nb im : Nat → Int32} {lg : Nat → List tp_Ent} {nm : Nat} {xcc : Int32} (hP : tp_IP n (ob, hd, wk, wn, nb, im, lg, nm, xcc)) (x : Int32) : ∃ P', tp_IP n P' ∧ tp_To (fun post u => wpX_abort post u x) (ob, hd, wk, wn, nb, im, lg, nm, xcc) P' := by
  obtain ⟨hI, hnm⟩ := hP
  by_cases hb : (x < 0 ∨ 4 ≤ x) ∨ (∃ t, t < 4 ∧ x = nI t ∧ ob t = false)
  · refine ⟨(ob, hd, wk, wn, nb, im, lg, nm, xcc), ⟨hI, hnm⟩, fun u hu post H => ?_⟩
    exact tp_Mt_el (Q := fun u => wpX_abort post u x) hu (fun xvo xhe xnm xsl xpa xtr xtd xhp xfi xwa xse xlo a1 a2 a3 a4 a5 a6 a7 a8 a9 a10 a11 a12 a13 a14 a15 a16 hM => tp_abortX hb (H _ _ hM))
  · rcases tp_ix4 x with hx | ⟨t, ht, hx⟩
    · exact absurd (Or.inl hx) hb
    · subst hx
      have ho : ob t = true := by
        cases q : ob t
        · exact absurd (Or.inr ⟨t, ht, rfl, q⟩) hb
        · rfl
      refine ⟨(tp_ub ob t false, tp_b8 hd t, upd wk t 0, wn, nb, im, lg, nm, xcc), ⟨tp_Inv_abort hI ht, hnm⟩, fun u hu post H => ?_⟩
      exact tp_Mt_el (Q := fun u => wpX_abort post u (nI t)) hu (fun xvo xhe xnm xsl xpa xtr xtd xhp xfi xwa xse xlo a1 a2 a3 a4 a5 a6 a7 a8 a9 a10 a11 a12 a13 a14 a15 a16 hM => tp_abortG hI ht ho hM (fun u' h => H _ u' h))
/-! crash: the transactions of a set h are rolled back -/
def tp_kp (h : Nat → Bool) (P : tp_Pic) : tp_Pic := match P with
  | (ob, hd, wk, wn, nb, im, lg, nm, xcc) => (fun s => ob s && !h s, fun k => if h (hd k).toNatClampNeg = true then -1 else hd k, fun s => if h s = true then 0 else wk s, wn, nb, im, lg, nm, xcc)
theorem tp_Inv_kill {ob : Nat → Bool} {hd wk wn nb im : Nat → Int32} {lg : Nat → List tp_Ent} {nm : Nat} {h : Nat → Bool} (hI : tp_Inv ob hd wk wn nb im lg nm) : tp_Inv (fun s => ob s && !h s) (fun k => if h (hd k).toNatClampNeg = true then -1 else hd k) (fun s => if h s = true then 0 else wk s) wn nb im lg nm := by
  obtain ⟨i1, i2, i3, i4, i5, i6, i7⟩ := hI
  refine ⟨fun k hk => ?_, fun s hs => ?_, fun s k hs hk hb => ?_, fun s k hs hk hb => ?_, i5, i6, i7⟩
  · dsimp only
    by_cases c : h (hd k).toNatClampNeg = true
    · rw [if_pos c]; exact Or.inl rfl
    · rw [if_neg c]
      rcases i1 k hk with e | ⟨s, hs, e, ho⟩
      · exact Or.inl e
      · refine Or.inr ⟨s, hs, e, ?_⟩
        rw [e, nI_clamp (show s < 2 ^ 31 by omega)] at c
        rw [ho]
        simpa using c
  · dsimp only
    by_cases c : h s = true
    · rw [if_pos c]; exact ⟨tp_W12_0, fun _ => rfl⟩
    · rw [if_neg c]
      refine ⟨(i2 s hs).1, fun z => (i2 s hs).2 ?_⟩
      have c' : h s = false := by simpa using c
      rw [c'] at z
      simpa using z
  · dsimp only at hb ⊢
    by_cases c : h s = true
    · rw [if_pos c, tp_b0] at hb; exact absurd hb (by simp)
    · rw [if_neg c] at hb
      have e := i3 s k hs hk hb
      rw [e, nI_clamp (show s < 2 ^ 31 by omega), if_neg c]
  · dsimp only at hb
    by_cases c : h s = true
    · rw [if_pos c, tp_b0] at hb; exact absurd hb (by simp)
    · rw [if_neg c] at hb
      exact i4 s k hs hk hb
theorem tp_Mt_kill {xvo xhe xnm xsl xpa xtr xtd xhp xcc xfi xwa xse xlo : Int32} {a1 a2 a3 a4 a5 a6 a7 a8 a9 a10 a11 a12 a13 a14 a15 a16 : Nat → Int32} {ob : Nat → Bool} {hd wk wn nb im : Nat → Int32} {lg : Nat → List tp_Ent} {nm : Nat} {h : Nat → Bool} {m : Nat} {x n : Int32} {b7 b8 b9 b11 b12 : Nat → Int32} (hI : tp_Inv ob hd wk wn nb im lg nm) (hM : tp_Mt (ob, hd, wk, wn, nb, im, lg, nm, xcc) (nI (tp_of ob), 0, xvo, xhe, nI nm, xnm, xsl, xpa, xtr, xtd, xhp, xcc, xfi, xwa, xse, xlo, a1, a2, a3, a4, a5, a6, a7, a8, a9, a10, a11, a12, a13, a14, a15, a16)) (h7 : ∀ k, k < 12 → b7 k = nb k)
    (I : tp_BI ob (fun _ => false) h a8 a9 a11 a12 m 4 x n b8 b9 b11 b12) : tp_Mt (tp_kp h (ob, hd, wk, wn, nb, im, lg, nm, xcc)) (x, 0, xvo, xhe, nI nm, xnm, xsl, xpa, xtr, xtd, xhp, xcc, xfi, xwa, xse, xlo, a1, a2, a3, a4, a5, a6, b7, b8, b9, a10, b11, b12, a13, a14, a15, a16) := by
  obtain ⟨_, _, _, _, h1, h2, _, h8, h9, h10, h11, h12⟩ := hM
  obtain ⟨i0, i8, i9, i11, i12, _⟩ := I
  refine ⟨?_, rfl, rfl, rfl, h1, h2, h7, fun k hk => ?_, fun s hs => ?_, fun s k hs hk hb => ?_, fun s j hs hj => ?_, fun s j hs ho hj => ?_⟩
  · rw [i0, tp_of_cg (fun s hs => ?_)]
    simp [hs]
  · show b8 k = if h (hd k).toNatClampNeg = true then -1 else hd k
    rw [i8 k hk, h8 k hk]
    unfold tp_bdk
    rw [h8 k hk]
    have hlt : (hd k).toNatClampNeg < 4 := by
      rcases hI.1 k hk with e | ⟨s, hs, e, _⟩
      · rw [e, tp_cm1]; omega
      · rw [e, nI_clamp (show s < 2 ^ 31 by omega)]; exact hs
    simp [hlt]
  · show b9 s = if h s = true then 0 else wk s
    rw [i9 s hs, h9 s hs]
    simp [hs]
  · have hb' : tp_bt (if h s = true then 0 else wk s) k = true := hb
    by_cases c : h s = true
    · rw [if_pos c, tp_b0] at hb'; exact absurd hb' (by simp)
    · rw [if_neg c] at hb'
      exact h10 s k hs hk hb'
  · rw [i11 s j hs hj, h11 s j hs hj]
    split <;> rfl
  · have ho' : (ob s && !h s) = true := ho
    have hob : ob s = true := by
      cases q : ob s
      · rw [q] at ho'; exact absurd ho' (by simp)
      · rfl
    rw [i12 s j hs hj, if_neg (fun z => absurd z.2.2.1 (by simp))]
    exact h12 s j hs hob hj
theorem tp_idle7 {ob : Nat → Bool} {hd wk wn nb im : Nat → Int32} {lg : Nat → List tp_Ent} {nm : Nat} {m : Nat} {a1 a7 : Nat → Int32} (hI : tp_Inv ob hd wk wn nb im lg nm) (hm : m < 3) (h1 : ∀ k, k < 12 → a1 k = im k) (h7 : ∀ k, k < 12 → a7 k = nb k) : ∀ k, k < 12 → tp_rpl (lg m) (lg m) (tp_i7 a1 a7 m) k = nb k := by
  intro k hk
  rw [tp_rpl_at]
  unfold tp_i7
  by_cases e : k % 3 = m
  · rw [if_pos ⟨hk, e⟩, h1 k hk]
    exact (hI.2.2.2.2.2.2 m hm).2 k hk e
  · rw [if_neg (fun z => e z.2), h7 k hk]
    refine tp_rpk_id _ k (fun tr x => ?_) _ _
    refine tp_apk_no tr k _ x (fun e' he' z => e ?_)
    rw [← z.2.2]
    exact ((hI.2.2.2.2.2.1 m (by omega)).2 e' he').2.2.2 z.1
theorem tp_crashM {post : Int32 → St1 → Prop} {xvo xhe xnm xsl xpa xtr xtd xhp xcc xfi xwa xse xlo : Int32} {a1 a2 a3 a4 a5 a6 a7 a8 a9 a10 a11 a12 a13 a14 a15 a16 : Nat → Int32} {ob : Nat → Bool} {hd wk wn nb im : Nat → Int32} {lg : Nat → List tp_Ent} {nm : Nat} {m : Nat} (hI : tp_Inv ob hd wk wn nb im lg nm) (hm : m < 3) (hM : tp_Mt (ob, hd, wk, wn, nb, im, lg, nm, xcc) (nI (tp_of ob), 0, xvo, xhe, nI nm, xnm, xsl, xpa, xtr, xtd, xhp, xcc, xfi, xwa, xse, xlo, a1, a2, a3, a4, a5, a6, a7, a8, a9, a10, a11, a12, a13, a14, a15, a16))
    (H : ∀ n u', ((∀ s, s < 4 → tp_hit hd m s = false) → n = 0) → tp_Mt (tp_kp (tp_hit hd m) (ob, hd, wk, wn, nb, im, lg, nm, xcc)) u' → post n u') : wpX_crash post (nI (tp_of ob), 0, xvo, xhe, nI nm, xnm, xsl, xpa, xtr, xtd, xhp, xcc, xfi, xwa, xse, xlo, a1, a2, a3, a4, a5, a6, a7, a8, a9, a10, a11, a12, a13, a14, a15, a16) (nI m) := by
  have hM' := hM
  obtain ⟨_, _, _, _, h1, h2, h7, h8, h9, h10, h11, h12⟩ := hM
  unfold wpX_crash
  refine pk_lt m 0 (fun q => absurd q (by omega)) (fun _ => ?_)
  refine pk_le m 3 (fun _ => ?_) (fun q => absurd q (by omega))
  refine pk_eq m 3 (fun q => absurd q (by omega)) (fun _ => ?_)
  have hL := h2 m (by omega)
  have hhit : tp_hit a8 m = tp_hit hd m := by
    funext s
    exact tp_hit_cg hm h8
  refine tp_breakDown (sl := 0) (f := ob) (sf := fun _ => false) (l := lg m) (tp_Mt_V hI h8) (fun s hs => by rw [h9 s hs]; exact (hI.2.1 s hs).1) rfl hm (fun s hs => ⟨fun z => absurd z (by simp), fun z => absurd rfl z.1⟩) hL.1 hL.2 (fun z => absurd (hI.2.2.2.2.2.2 m hm).1 z) ?_ (fun z => absurd (hI.2.2.2.2.2.2 m hm).1 z)
  intro _ n x b8 b9 b11 b12 I
  rw [hhit] at I
  exact H n _ I.2.2.2.2.2 (tp_Mt_kill hI hM' (tp_idle7 hI hm h1 h7) I)
theorem tp_crashL {post : Int32 → St1 → Prop} {xvo xhe xnm xsl xpa xtr xtd xhp xcc xfi xwa xse xlo : Int32} {a1 a2 a3 a4 a5 a6 a7 a8 a9 a10 a11 a12 a13 a14 a15 a16 : Nat → Int32} {ob : Nat → Bool} {hd wk wn nb im : Nat → Int32} {lg : Nat → List tp_Ent} {nm : Nat} (hI : tp_Inv ob hd wk wn nb im lg nm) (hM : tp_Mt (ob, hd, wk, wn, nb, im, lg, nm, xcc) (nI (tp_of ob), 0, xvo, xhe, nI nm, xnm, xsl, xpa, xtr, xtd, xhp, xcc, xfi, xwa, xse, xlo, a1, a2, a3, a4, a5, a6, a7, a8, a9, a10, a11, a12, a13, a14, a15, a16))
    (H : ∀ n u', tp_Mt (tp_kp ob (ob, hd, wk, wn, nb, im, lg, nm, xcc)) u' → post n u') : wpX_crash post (nI (tp_of ob), 0, xvo, xhe, nI nm, xnm, xsl, xpa, xtr, xtd, xhp, xcc, xfi, xwa, xse, xlo, a1, a2, a3, a4, a5, a6, a7, a8, a9, a10, a11, a12, a13, a14, a15, a16) (nI 3) := by
  have hM' := hM
  obtain ⟨_, _, _, _, h1, h2, h7, h8, h9, h10, h11, h12⟩ := hM
  unfold wpX_crash
  refine pk_lt 3 0 (fun q => absurd q (by omega)) (fun _ => ?_)
  refine pk_le 3 3 (fun _ => ?_) (fun q => absurd q (by omega))
  refine pk_eq 3 3 (fun _ => ?_) (fun q => absurd rfl q)
  have hL := h2 3 (by omega)
  refine tp_breakLeader (N := 0) (f := ob) (sf := fun _ => false) (l := lg 3) (tp_Mt_V hI h8) (fun s hs => by rw [h9 s hs]; exact (hI.2.1 s hs).1) rfl (fun s hs => ⟨fun z => absurd z (by simp), fun z => absurd rfl z.1⟩) hL.1 hL.2 (fun z => absurd rfl z) ?_ (fun z => absurd rfl z) (fun z => absurd rfl z)
  intro _ n x b8 b9 b11 I
  have hf : (fun s => ob s && !(fun _ => false) s) = ob := by
    funext s
    simp
  rw [hf] at I
  exact H n _ (tp_Mt_kill hI hM' h7 I)
theorem tp_crashX {post : Int32 → St1 → Prop} {xvo xhe xnm xsl xpa xtr xtd xhp xcc xfi xwa xse xlo : Int32} {a1 a2 a3 a4 a5 a6 a7 a8 a9 a10 a11 a12 a13 a14 a15 a16 : Nat → Int32} {ob : Nat → Bool}   {nm : Nat} {x : Int32} (h : x < 0 ∨ 4 ≤ x) (H : post (-100000) (nI (tp_of ob), 0, xvo, xhe, nI nm, xnm, xsl, xpa, xtr, xtd, xhp, xcc, xfi, xwa, xse, xlo, a1, a2, a3, a4, a5, a6, a7, a8, a9, a10, a11, a12, a13, a14, a15, a16)) : wpX_crash post (nI (tp_of ob), 0, xvo, xhe, nI nm, xnm, xsl, xpa, xtr, xtd, xhp, xcc, xfi, xwa, xse, xlo, a1, a2, a3, a4, a5, a6, a7, a8, a9, a10, a11, a12, a13, a14, a15, a16) x := by
  unfold wpX_crash
  rcases h with h | h
  · exact br_t h H
  · refine br_c (fun _ => H) (fun _ => br_f (fun q => ?_) H)
    have h3 := Int32.le_iff_toInt_le.mp (Int32.le_trans h q)
    exact absurd h3 (by decide)
theorem tp_crashP {n : Nat} {ob : Nat → Bool} {hd wk wn nb im : Nat → Int32} {lg : Nat → List tp_Ent} {nm : Nat} {xcc : Int32} (hP : tp_IP n (ob, hd, wk, wn, nb, im, lg, nm, xcc)) (x : Int32) : ∃ P', tp_IP n P' ∧ tp_To (fun post u => wpX_crash post u x) (ob, hd, wk, wn, nb, im, lg, nm, xcc) P' := by
  obtain ⟨hI, hnm⟩ := hP
  rcases tp_ix4 x with hx | ⟨t, ht, hx⟩
  · refine ⟨(ob, hd, wk, wn, nb, im, lg, nm, xcc), ⟨hI, hnm⟩, fun u hu post H => ?_⟩
    exact tp_Mt_el (Q := fun u => wpX_crash post u x) hu (fun xvo xhe xnm xsl xpa xtr xtd xhp xfi xwa xse xlo a1 a2 a3 a4 a5 a6 a7 a8 a9 a10 a11 a12 a13 a14 a15 a16 hM => tp_crashX hx (H _ _ hM))
  · subst hx
    by_cases h3 : t < 3
    · refine ⟨tp_kp (tp_hit hd t) (ob, hd, wk, wn, nb, im, lg, nm, xcc), ⟨tp_Inv_kill hI, hnm⟩, fun u hu post H => ?_⟩
      exact tp_Mt_el (Q := fun u => wpX_crash post u (nI t)) hu (fun xvo xhe xnm xsl xpa xtr xtd xhp xfi xwa xse xlo a1 a2 a3 a4 a5 a6 a7 a8 a9 a10 a11 a12 a13 a14 a15 a16 hM => tp_crashM hI h3 hM (fun r u' _ h => H r u' h))
    · have e : t = 3 := by omega
      subst e
      refine ⟨tp_kp ob (ob, hd, wk, wn, nb, im, lg, nm, xcc), ⟨tp_Inv_kill hI, hnm⟩, fun u hu post H => ?_⟩
      exact tp_Mt_el (Q := fun u => wpX_crash post u (nI 3)) hu (fun xvo xhe xnm xsl xpa xtr xtd xhp xfi xwa xse xlo a1 a2 a3 a4 a5 a6 a7 a8 a9 a10 a11 a12 a13 a14 a15 a16 hM => tp_crashL hI hM (fun r u' h => H r u' h))
/-! commit with any arguments -/
theorem tp_commitX {post : Int32 → St1 → Prop} {xvo xhe xnm xsl xpa xtr xtd xhp xcc xfi xwa xse xlo : Int32} {a1 a2 a3 a4 a5 a6 a7 a8 a9 a10 a11 a12 a13 a14 a15 a16 : Nat → Int32} {ob : Nat → Bool}   {nm : Nat} {x y z : Int32} (h : (x < 0 ∨ 4 ≤ x) ∨ (∃ t, t < 4 ∧ x = nI t ∧ ob t = false) ∨ (y < 0 ∨ 8 ≤ y) ∨ (z < 0 ∨ 3 ≤ z)) (H : post (-100000) (nI (tp_of ob), 0, xvo, xhe, nI nm, xnm, xsl, xpa, xtr, xtd, xhp, xcc, xfi, xwa, xse, xlo, a1, a2, a3, a4, a5, a6, a7, a8, a9, a10, a11, a12, a13, a14, a15, a16)) : wpX_commit post (nI (tp_of ob), 0, xvo, xhe, nI nm, xnm, xsl, xpa, xtr, xtd, xhp, xcc, xfi, xwa, xse, xlo, a1, a2, a3, a4, a5, a6, a7, a8, a9, a10, a11, a12, a13, a14, a15, a16) x y z := by
  unfold wpX_commit
  rcases tp_ix4 x with hx | ⟨t, ht, hx⟩
  · exact tp_isOpenX hx (br_t rfl H)
  · subst hx
    refine tp_isOpen (f := ob) ht rfl (fun _ => br_t rfl H) (fun ho => br_f (by decide) ?_)
    rcases pk_ix y (show 8 < 2 ^ 31 by omega) with hy | hy | ⟨tr, htr, hy⟩
    · exact br_t hy H
    · refine br_c (fun _ => H) (fun _ => br_t ?_ H)
      exact Int32.lt_of_lt_of_le (by decide) hy
    · subst hy
      refine pk_lt tr 0 (fun q => absurd q (by omega)) (fun _ => ?_)
      refine pk_lt 7 tr (fun q => absurd q (by omega)) (fun _ => ?_)
      rcases pk_ix z (show 3 < 2 ^ 31 by omega) with hz | hz | ⟨td, htd, hz⟩
      · exact br_t hz H
      · refine br_c (fun _ => H) (fun _ => br_f (fun q => ?_) H)
        exact absurd (Int32.lt_of_le_of_lt hz q) (by decide)
      · subst hz
        rcases h with h | ⟨t', ht', e, ho'⟩ | h | h
        · rcases h with h | h
          · exact absurd h (nI_pos (by omega))
          · exact absurd h (nI_ge (b := 4) ht (by decide))
        · rw [← tp_ni (show t < 2 ^ 31 by omega) (by omega) e, ho] at ho'
          exact absurd ho' (by simp)
        · rcases h with h | h
          · exact absurd h (nI_pos (by omega))
          · exact absurd h (nI_ge (b := 8) htr (by decide))
        · rcases h with h | h
          · exact absurd h (nI_pos (by omega))
          · exact absurd h (nI_ge (b := 3) htd (by decide))
theorem tp_commitP {n : Nat} {ob : Nat → Bool} {hd wk wn nb im : Nat → Int32} {lg : Nat → List tp_Ent} {nm : Nat} {xcc : Int32} (hP : tp_IP n (ob, hd, wk, wn, nb, im, lg, nm, xcc)) (hn : n < 100000) (x y z : Int32) : ∃ P', tp_IP (n + 1) P' ∧ tp_To (fun post u => wpX_commit post u x y z) (ob, hd, wk, wn, nb, im, lg, nm, xcc) P' := by
  by_cases hb : (x < 0 ∨ 4 ≤ x) ∨ (∃ t, t < 4 ∧ x = nI t ∧ ob t = false) ∨ (y < 0 ∨ 8 ≤ y) ∨ (z < 0 ∨ 3 ≤ z)
  · refine ⟨(ob, hd, wk, wn, nb, im, lg, nm, xcc), tp_IP_mono hP (by omega), fun u hu post H => ?_⟩
    exact tp_Mt_el (Q := fun u => wpX_commit post u x y z) hu (fun xvo xhe xnm xsl xpa xtr xtd xhp xfi xwa xse xlo a1 a2 a3 a4 a5 a6 a7 a8 a9 a10 a11 a12 a13 a14 a15 a16 hM => tp_commitX hb (H _ _ hM))
  · rcases tp_ix4 x with hx | ⟨t, ht, hx⟩
    · exact absurd (Or.inl hx) hb
    · rcases pk_ix y (show 8 < 2 ^ 31 by omega) with hy | hy | ⟨tr, htr, hy⟩
      · exact absurd (Or.inr (Or.inr (Or.inl (Or.inl hy)))) hb
      · exact absurd (Or.inr (Or.inr (Or.inl (Or.inr hy)))) hb
      · rcases pk_ix z (show 3 < 2 ^ 31 by omega) with hz | hz | ⟨td, htd, hz⟩
        · exact absurd (Or.inr (Or.inr (Or.inr (Or.inl hz)))) hb
        · exact absurd (Or.inr (Or.inr (Or.inr (Or.inr hz)))) hb
        · subst hx hy hz
          have ho : ob t = true := by
            cases q : ob t
            · exact absurd (Or.inr (Or.inl ⟨t, ht, rfl, q⟩)) hb
            · rfl
          exact tp_commitG hP hn ht ho htr htd
end
section
/-! looking; alike; a turn -/
def tp_sm (f : Nat → Int32) : Nat → Int32
  | 0 => 0
  | n + 1 => tp_sm f n + f n
def tp_kz (f : Nat → Bool) : Nat → Int32
  | 0 => 0
  | n + 1 => tp_kz f n ||| (if f n = true then ((1 : Int32) <<< (nI n &&& 31)) else 0)
theorem tp_kz_cg {f g : Nat → Bool} : ∀ n, (∀ k, k < n → f k = g k) → tp_kz f n = tp_kz g n := by
  intro n
  induction n with
  | zero => intro _; rfl
  | succ n ih =>
    intro h
    unfold tp_kz
    rw [ih (fun k hk => h k (by omega)), h n (by omega)]
theorem tp_kz_bt (f : Nat → Bool) {i : Nat} (hi : i < 32) : ∀ n, n ≤ 32 → tp_bt (tp_kz f n) i = (decide (i < n) && f i) := by
  intro n
  induction n with
  | zero => intro _; rw [show tp_kz f 0 = 0 from rfl, tp_b0]; simp
  | succ n ih =>
    intro hn
    unfold tp_kz
    rw [tp_bor, ih (by omega)]
    by_cases c : f n = true
    · rw [if_pos c, tp_one (by omega) hi]
      by_cases e : i = n
      · subst e; simp [c]
      · have : (i < n + 1) ↔ (i < n) := by omega
        simp [e, this]
    · rw [if_neg c, tp_b0, Bool.or_false]
      by_cases e : i = n
      · subst e
        have c' : f i = false := by simpa using c
        simp [c']
      · have : (i < n + 1) ↔ (i < n) := by omega
        simp [this]
theorem tp_total {post : Int32 → Prop} {xop xst xvo xhe xns xnm xsl xpa xtr xtd xhp xcc xfi xwa xse xlo : Int32} {a1 a2 a3 a4 a5 a6 a7 a8 a9 a10 a11 a12 a13 a14 a15 a16 : Nat → Int32} {nb : Nat → Int32} (h7 : ∀ k, k < 12 → a7 k = nb k) (H : post (tp_sm nb 12)) : wpX_total post (xop, xst, xvo, xhe, xns, xnm, xsl, xpa, xtr, xtd, xhp, xcc, xfi, xwa, xse, xlo, a1, a2, a3, a4, a5, a6, a7, a8, a9, a10, a11, a12, a13, a14, a15, a16) := by
  refine pk_loop (σ := Unit) (fun n k _ => wX_total_4 post xop xst xvo xhe xns xnm xsl xpa xtr xtd xhp xcc xfi xwa xse xlo a1 a2 a3 a4 a5 a6 a7 a8 a9 a10 a11 a12 a13 a14 a15 a16 n (tp_sm nb k) (nI k)) (fun _ _ => True) 12 0 () (by omega) trivial ?_ ?_
  · intro n _ _
    exact pk_le 12 12 (fun _ => H) (fun z => absurd z (by omega))
  · intro n k _ hk _ hw
    refine pk_le 12 k (fun z => absurd z (by omega)) (fun _ => ⟨pk_in k 12 hk, ?_⟩)
    exact nm_r (e' := tp_sm nb (k + 1)) (by rw [nI_clamp (show k < 2 ^ 31 by omega), h7 k hk]; rfl) (nm_r (nI_1 k) (hw () trivial))
theorem tp_peek {post : Int32 → Prop} {xop xst xvo xhe xns xnm xsl xpa xtr xtd xhp xcc xfi xwa xse xlo : Int32} {a1 a2 a3 a4 a5 a6 a7 a8 a9 a10 a11 a12 a13 a14 a15 a16 : Nat → Int32} {nb : Nat → Int32} {k : Nat} (hk : k < 12) (h7 : ∀ k, k < 12 → a7 k = nb k) (H : post (nb k)) : wpX_peek post (xop, xst, xvo, xhe, xns, xnm, xsl, xpa, xtr, xtd, xhp, xcc, xfi, xwa, xse, xlo, a1, a2, a3, a4, a5, a6, a7, a8, a9, a10, a11, a12, a13, a14, a15, a16) (nI k) := by
  unfold wpX_peek
  refine tp_isKey hk (br_f (by decide) ⟨pk_in k 12 hk, ?_⟩)
  rw [nI_clamp (show k < 2 ^ 31 by omega), h7 k hk]
  exact H
def tp_vH (hd : Nat → Int32) (k : Nat) : Int32 := if hd k = -1 then -200000 else hd k
theorem tp_holder {post : Int32 → Prop} {xop xst xvo xhe xns xnm xsl xpa xtr xtd xhp xcc xfi xwa xse xlo : Int32} {a1 a2 a3 a4 a5 a6 a7 a8 a9 a10 a11 a12 a13 a14 a15 a16 : Nat → Int32} {hd : Nat → Int32} {k : Nat} (hk : k < 12) (h8 : ∀ k, k < 12 → a8 k = hd k) (H : post (tp_vH hd k)) : wpX_holder post (xop, xst, xvo, xhe, xns, xnm, xsl, xpa, xtr, xtd, xhp, xcc, xfi, xwa, xse, xlo, a1, a2, a3, a4, a5, a6, a7, a8, a9, a10, a11, a12, a13, a14, a15, a16) (nI k) := by
  unfold wpX_holder
  refine tp_isKey hk (br_f (by decide) ⟨pk_in k 12 hk, ?_⟩)
  rw [nI_clamp (show k < 2 ^ 31 by omega), h8 k hk]
  unfold tp_vH at H
  refine br_c (fun z => ?_) (fun z => ⟨pk_in k 12 hk, ?_⟩)
  · rw [if_pos z] at H; exact H
  · rw [if_neg z] at H; exact H
def tp_vS (nb : Nat → Int32) (k : Nat) : Int32 := if k < 3 then 0 + nb k + nb (k + 3) + nb (k + 6) + nb (k + 9) else -100000
theorem tp_su_step {post : Int32 → Prop} {xop xst xvo xhe xns xnm xsl xpa xtr xtd xhp xcc xfi xwa xse xlo : Int32} {a1 a2 a3 a4 a5 a6 a7 a8 a9 a10 a11 a12 a13 a14 a15 a16 : Nat → Int32} {nb : Nat → Int32} {k n : Nat} {x : Int32} (hk : k < 12) (h7 : ∀ k, k < 12 → a7 k = nb k) (H : wX_sum_16 post xop xst xvo xhe xns xnm xsl xpa xtr xtd xhp xcc xfi xwa xse xlo a1 a2 a3 a4 a5 a6 a7 a8 a9 a10 a11 a12 a13 a14 a15 a16 n (x + nb k) (nI (k + 3))) : wX_sum_16 post xop xst xvo xhe xns xnm xsl xpa xtr xtd xhp xcc xfi xwa xse xlo a1 a2 a3 a4 a5 a6 a7 a8 a9 a10 a11 a12 a13 a14 a15 a16 (n + 1) x (nI k) := by
  refine pk_le 12 k (fun z => absurd z (by omega)) (fun _ => ⟨pk_in k 12 hk, ?_⟩)
  exact nm_r (by rw [nI_clamp (show k < 2 ^ 31 by omega), h7 k hk]) (nm_r (nI_add k 3) H)
theorem tp_sum {post : Int32 → Prop} {xop xst xvo xhe xns xnm xsl xpa xtr xtd xhp xcc xfi xwa xse xlo : Int32} {a1 a2 a3 a4 a5 a6 a7 a8 a9 a10 a11 a12 a13 a14 a15 a16 : Nat → Int32} {nb : Nat → Int32} {k : Nat} (hk : k < 12) (h7 : ∀ k, k < 12 → a7 k = nb k) (H : post (tp_vS nb k)) : wpX_sum post (xop, xst, xvo, xhe, xns, xnm, xsl, xpa, xtr, xtd, xhp, xcc, xfi, xwa, xse, xlo, a1, a2, a3, a4, a5, a6, a7, a8, a9, a10, a11, a12, a13, a14, a15, a16) (nI k) := by
  unfold tp_vS at H
  unfold wpX_sum
  refine pk_lt k 0 (fun z => absurd z (by omega)) (fun _ => ?_)
  refine pk_lt k 3 (fun z => ⟨5, ?_⟩) (fun z => ?_)
  · rw [if_pos z] at H
    refine tp_su_step (by omega) h7 ?_
    refine tp_su_step (by omega) h7 ?_
    refine tp_su_step (by omega) h7 ?_
    refine tp_su_step (by omega) h7 ?_
    exact pk_le 12 (k + 3 + 3 + 3 + 3) (fun _ => H) (fun q => absurd q (by omega))
  · rw [if_neg (by omega)] at H; exact H
def tp_vK (ob : Nat → Bool) (hd : Nat → Int32) (k : Nat) : Int32 := if k < 4 ∧ ob k = true then tp_kz (fun j => decide (hd j = nI k)) 12 else 0
theorem tp_keysL {post : Int32 → Prop} {xop xst xvo xhe xns xnm xsl xpa xtr xtd xhp xcc xfi xwa xse xlo : Int32} {a1 a2 a3 a4 a5 a6 a7 a8 a9 a10 a11 a12 a13 a14 a15 a16 : Nat → Int32} {hd : Nat → Int32} {t : Nat} (h8 : ∀ k, k < 12 → a8 k = hd k) (H : post (tp_kz (fun j => decide (hd j = nI t)) 12)) : ∃ n, wX_keys_14 post (nI t) xop xst xvo xhe xns xnm xsl xpa xtr xtd xhp xcc xfi xwa xse xlo a1 a2 a3 a4 a5 a6 a7 a8 a9 a10 a11 a12 a13 a14 a15 a16 n 0 0 := by
  refine pk_loop (σ := Unit) (fun n k _ => wX_keys_14 post (nI t) xop xst xvo xhe xns xnm xsl xpa xtr xtd xhp xcc xfi xwa xse xlo a1 a2 a3 a4 a5 a6 a7 a8 a9 a10 a11 a12 a13 a14 a15 a16 n (tp_kz (fun j => decide (hd j = nI t)) k) (nI k)) (fun _ _ => True) 12 0 () (by omega) trivial ?_ ?_
  · intro n _ _
    exact pk_le 12 12 (fun _ => H) (fun z => absurd z (by omega))
  · intro n k _ hk _ hw
    have hw' := hw () trivial
    refine pk_le 12 k (fun z => absurd z (by omega)) (fun _ => ⟨pk_in k 12 hk, ?_⟩)
    rw [nI_clamp (show k < 2 ^ 31 by omega), h8 k hk]
    unfold tp_kz at hw'
    by_cases c : hd k = nI t
    · rw [if_pos (decide_eq_true c)] at hw'
      exact br_t c (nm_e (nm_r (nI_1 k) hw'))
    · rw [if_neg (by simp [c])] at hw'
      exact br_f c (nm_e (nm_r (nI_1 k) hw'))
theorem tp_keys {post : Int32 → Prop} {xst xvo xhe xns xnm xsl xpa xtr xtd xhp xcc xfi xwa xse xlo : Int32} {a1 a2 a3 a4 a5 a6 a7 a8 a9 a10 a11 a12 a13 a14 a15 a16 : Nat → Int32} {ob : Nat → Bool} {hd : Nat → Int32} {k : Nat} (hk : k < 12) (h8 : ∀ k, k < 12 → a8 k = hd k) (H : post (tp_vK ob hd k)) : wpX_keys post (nI (tp_of ob), xst, xvo, xhe, xns, xnm, xsl, xpa, xtr, xtd, xhp, xcc, xfi, xwa, xse, xlo, a1, a2, a3, a4, a5, a6, a7, a8, a9, a10, a11, a12, a13, a14, a15, a16) (nI k) := by
  unfold tp_vK at H
  unfold wpX_keys
  by_cases h4 : k < 4
  · refine tp_isOpen (f := ob) h4 rfl (fun z => br_t rfl ?_) (fun z => br_f (by decide) ?_)
    · rw [if_neg (fun q => absurd q.2 (by rw [z]; simp))] at H; exact H
    · rw [if_pos ⟨h4, z⟩] at H
      exact tp_keysL h8 H
  · rw [if_neg (fun q => h4 q.1)] at H
    exact tp_isOpenX (Or.inr (nI_le (a := 4) (by omega) (by omega))) (br_t rfl H)
def tp_vW (ob : Nat → Bool) (wk : Nat → Int32) (k : Nat) : Int32 := if k < 4 ∧ ob k = true then wk k else 0
theorem tp_written {post : Int32 → Prop} {xst xvo xhe xns xnm xsl xpa xtr xtd xhp xcc xfi xwa xse xlo : Int32} {a1 a2 a3 a4 a5 a6 a7 a8 a9 a10 a11 a12 a13 a14 a15 a16 : Nat → Int32} {ob : Nat → Bool} {wk : Nat → Int32} {k : Nat} (hk : k < 12) (h9 : ∀ t, t < 4 → a9 t = wk t) (H : post (tp_vW ob wk k)) : wpX_written post (nI (tp_of ob), xst, xvo, xhe, xns, xnm, xsl, xpa, xtr, xtd, xhp, xcc, xfi, xwa, xse, xlo, a1, a2, a3, a4, a5, a6, a7, a8, a9, a10, a11, a12, a13, a14, a15, a16) (nI k) := by
  unfold tp_vW at H
  unfold wpX_written
  by_cases h4 : k < 4
  · refine tp_isOpen (f := ob) h4 rfl (fun z => br_t rfl ?_) (fun z => br_f (by decide) ⟨pk_in k 4 h4, ?_⟩)
    · rw [if_neg (fun q => absurd q.2 (by rw [z]; simp))] at H; exact H
    · rw [if_pos ⟨h4, z⟩] at H
      rw [nI_clamp (show k < 2 ^ 31 by omega), h9 k h4]
      exact H
  · rw [if_neg (fun q => h4 q.1)] at H
    exact tp_isOpenX (Or.inr (nI_le (a := 4) (by omega) (by omega))) (br_t rfl H)
theorem tp_alike {post : Int32 → Prop} {xvo xhe xnm xsl xpa xtr xtd xhp xcc xfi xwa xse xlo : Int32} {a1 a2 a3 a4 a5 a6 a7 a8 a9 a10 a11 a12 a13 a14 a15 a16 : Nat → Int32} {xvo' xhe' xnm' xsl' xpa' xtr' xtd' xhp' xfi' xwa' xse' xlo' : Int32} {a1' a2' a3' a4' a5' a6' a7' a8' a9' a10' a11' a12' a13' a14' a15' a16' : Nat → Int32} {ob : Nat → Bool} {hd wk wn nb im : Nat → Int32} {lg : Nat → List tp_Ent} {nm : Nat} (hM : tp_Mt (ob, hd, wk, wn, nb, im, lg, nm, xcc) (nI (tp_of ob), 0, xvo, xhe, nI nm, xnm, xsl, xpa, xtr, xtd, xhp, xcc, xfi, xwa, xse, xlo, a1, a2, a3, a4, a5, a6, a7, a8, a9, a10, a11, a12, a13, a14, a15, a16)) (hM' : tp_Mt (ob, hd, wk, wn, nb, im, lg, nm, xcc) (nI (tp_of ob), 0, xvo', xhe', nI nm, xnm', xsl', xpa', xtr', xtd', xhp', xcc, xfi', xwa', xse', xlo', a1', a2', a3', a4', a5', a6', a7', a8', a9', a10', a11', a12', a13', a14', a15', a16')) (H : post 1) : wpL_alike post (nI (tp_of ob), 0, xvo, xhe, nI nm, xnm, xsl, xpa, xtr, xtd, xhp, xcc, xfi, xwa, xse, xlo, a1, a2, a3, a4, a5, a6, a7, a8, a9, a10, a11, a12, a13, a14, a15, a16, nI (tp_of ob), 0, xvo', xhe', nI nm, xnm', xsl', xpa', xtr', xtd', xhp', xcc, xfi', xwa', xse', xlo', a1', a2', a3', a4', a5', a6', a7', a8', a9', a10', a11', a12', a13', a14', a15', a16') := by
  obtain ⟨_, _, _, _, h1, h2, h7, h8, h9, h10, h11, h12⟩ := hM
  obtain ⟨_, _, _, _, g1, g2, g7, g8, g9, g10, g11, g12⟩ := hM'
  unfold wpL_alike wpX_open
  refine br_t rfl ?_
  refine tp_total h7 ?_
  refine tp_total g7 ?_
  refine br_t rfl ?_
  unfold wpX_commits
  refine br_t rfl ?_
  refine pk_loop (σ := Unit) (fun n k _ => wL_alike_41 post (nI (tp_of ob)) 0 xvo xhe (nI nm) xnm xsl xpa xtr xtd xhp xcc xfi xwa xse xlo a1 a2 a3 a4 a5 a6 a7 a8 a9 a10 a11 a12 a13 a14 a15 a16 (nI (tp_of ob)) 0 xvo' xhe' (nI nm) xnm' xsl' xpa' xtr' xtd' xhp' xcc xfi' xwa' xse' xlo' a1' a2' a3' a4' a5' a6' a7' a8' a9' a10' a11' a12' a13' a14' a15' a16' n 1 (nI k)) (fun _ _ => True) 12 0 () (by omega) trivial ?_ ?_
  · intro n _ _
    exact pk_le 12 12 (fun _ => ⟨by decide, H⟩) (fun z => absurd z (by omega))
  · intro n k _ hk _ hw
    refine pk_le 12 k (fun z => absurd z (by omega)) (fun _ => br_f (by decide) ?_)
    refine tp_peek hk h7 ?_
    refine tp_peek hk g7 ?_
    refine br_t rfl ?_
    refine tp_holder hk h8 ?_
    refine tp_holder hk g8 ?_
    refine br_t rfl ?_
    refine tp_sum hk h7 ?_
    refine tp_sum hk g7 ?_
    refine br_t rfl ?_
    refine tp_keys hk h8 ?_
    refine tp_keys hk g8 ?_
    refine br_t rfl ?_
    refine tp_written hk h9 ?_
    refine tp_written hk g9 ?_
    refine br_t rfl ?_
    exact nm_r (nI_1 k) (hw () trivial)
/-! a turn -/
def tp_Tu (W : (St1 → Prop) → St1 → Prop) (P P' : tp_Pic) : Prop := ∀ u, tp_Mt P u → ∀ post : St1 → Prop, (∀ u', tp_Mt P' u' → post u') → W post u
theorem tp_call {W : (Int32 → St1 → Prop) → St1 → Prop} {P P' : tp_Pic} {u : St1} {post : St1 → Prop} (h : tp_To W P P') (hu : tp_Mt P u) (H : ∀ u', tp_Mt P' u' → post u') : W (fun _ u => match u with | (xop, xst, xvo, xhe, xns, xnm, xsl, xpa, xtr, xtd, xhp, xcc, xfi, xwa, xse, xlo, a1, a2, a3, a4, a5, a6, a7, a8, a9, a10, a11, a12, a13, a14, a15, a16) => post (xop, xst, xvo, xhe, xns, xnm, xsl, xpa, xtr, xtd, xhp, xcc, xfi, xwa, xse, xlo, a1, a2, a3, a4, a5, a6, a7, a8, a9, a10, a11, a12, a13, a14, a15, a16)) u := by
  refine h u hu _ (fun r u' h' => ?_)
  obtain ⟨xop, xst, xvo, xhe, xns, xnm, xsl, xpa, xtr, xtd, xhp, xcc, xfi, xwa, xse, xlo, a1, a2, a3, a4, a5, a6, a7, a8, a9, a10, a11, a12, a13, a14, a15, a16⟩ := u'
  exact H _ h'
def tp_u52 (x3 x4 x5 x6 x7 z0 : Int32) (post : St1 → Prop) (u : St1) : Prop := match u with
  | (xop, xst, xvo, xhe, xns, xnm, xsl, xpa, xtr, xtd, xhp, xcc, xfi, xwa, xse, xlo, a1, a2, a3, a4, a5, a6, a7, a8, a9, a10, a11, a12, a13, a14, a15, a16) => wL_turn_52 post x3 x4 x5 x6 x7 z0 xop xst xvo xhe xns xnm xsl xpa xtr xtd xhp xcc xfi xwa xse xlo a1 a2 a3 a4 a5 a6 a7 a8 a9 a10 a11 a12 a13 a14 a15 a16
theorem tp_turn52 {n : Nat} {ob : Nat → Bool} {hd wk wn nb im : Nat → Int32} {lg : Nat → List tp_Ent} {nm : Nat} {xcc : Int32} (hP : tp_IP n (ob, hd, wk, wn, nb, im, lg, nm, xcc)) (hn : n < 100000) (x3 x4 x5 x6 x7 z0 : Int32) : ∃ P', tp_IP (n + 1) P' ∧ tp_Tu (tp_u52 x3 x4 x5 x6 x7 z0) (ob, hd, wk, wn, nb, im, lg, nm, xcc) P' := by
  have up : ∀ {Q : tp_Pic}, tp_IP n Q → tp_IP (n + 1) Q := fun h => tp_IP_mono h (by omega)
  by_cases c1 : 1 < x5
  · by_cases c3 : 3 < x5
    · by_cases c7 : 7 < x5
      · by_cases c9 : 9 < x5
        · by_cases c12 : 12 < x5
          · by_cases c13 : x5 = 13
            · obtain ⟨P', hp, ht⟩ := tp_abortP hP x7
              refine ⟨P', up hp, fun u hu post H => ?_⟩
              obtain ⟨xop, xst, xvo, xhe, xns, xnm, xsl, xpa, xtr, xtd, xhp, ycc, xfi, xwa, xse, xlo, a1, a2, a3, a4, a5, a6, a7, a8, a9, a10, a11, a12, a13, a14, a15, a16⟩ := u
              exact br_t c1 (br_t c3 (br_t c7 (br_t c9 (br_t c12 (br_t c13 (tp_call ht hu H))))))
            · by_cases c6 : x6 = 0
              · obtain ⟨P', hp, ht⟩ := tp_crashP hP x3
                refine ⟨P', up hp, fun u hu post H => ?_⟩
                obtain ⟨xop, xst, xvo, xhe, xns, xnm, xsl, xpa, xtr, xtd, xhp, ycc, xfi, xwa, xse, xlo, a1, a2, a3, a4, a5, a6, a7, a8, a9, a10, a11, a12, a13, a14, a15, a16⟩ := u
                exact br_t c1 (br_t c3 (br_t c7 (br_t c9 (br_t c12 (br_f c13 (br_t c6 (tp_call ht hu H)))))))
              · obtain ⟨P', hp, ht⟩ := tp_crashP hP (x3 &&& 3)
                refine ⟨P', up hp, fun u hu post H => ?_⟩
                obtain ⟨xop, xst, xvo, xhe, xns, xnm, xsl, xpa, xtr, xtd, xhp, ycc, xfi, xwa, xse, xlo, a1, a2, a3, a4, a5, a6, a7, a8, a9, a10, a11, a12, a13, a14, a15, a16⟩ := u
                exact br_t c1 (br_t c3 (br_t c7 (br_t c9 (br_t c12 (br_f c13 (br_f c6 (tp_call ht hu H)))))))
          · by_cases c6 : x6 = 0
            · obtain ⟨P', hp, ht⟩ := tp_commitP hP hn x7 x3 x4
              refine ⟨P', hp, fun u hu post H => ?_⟩
              obtain ⟨xop, xst, xvo, xhe, xns, xnm, xsl, xpa, xtr, xtd, xhp, ycc, xfi, xwa, xse, xlo, a1, a2, a3, a4, a5, a6, a7, a8, a9, a10, a11, a12, a13, a14, a15, a16⟩ := u
              exact br_t c1 (br_t c3 (br_t c7 (br_t c9 (br_f c12 (br_t c6 (br_t c6 (tp_call ht hu H)))))))
            · obtain ⟨P', hp, ht⟩ := tp_commitP hP hn x7 (x3 &&& 7) ((x4 &&& 3) - (x4 &&& 3) / 3 * 3)
              refine ⟨P', hp, fun u hu post H => ?_⟩
              obtain ⟨xop, xst, xvo, xhe, xns, xnm, xsl, xpa, xtr, xtd, xhp, ycc, xfi, xwa, xse, xlo, a1, a2, a3, a4, a5, a6, a7, a8, a9, a10, a11, a12, a13, a14, a15, a16⟩ := u
              exact br_t c1 (br_t c3 (br_t c7 (br_t c9 (br_f c12 (br_f c6 (br_f c6 ⟨by decide, tp_call ht hu H⟩))))))
        · by_cases c6 : x6 = 0
          · obtain ⟨P', hp, ht⟩ := tp_moveP hP x7 x3 x4
            refine ⟨P', up hp, fun u hu post H => ?_⟩
            obtain ⟨xop, xst, xvo, xhe, xns, xnm, xsl, xpa, xtr, xtd, xhp, ycc, xfi, xwa, xse, xlo, a1, a2, a3, a4, a5, a6, a7, a8, a9, a10, a11, a12, a13, a14, a15, a16⟩ := u
            exact br_t c1 (br_t c3 (br_t c7 (br_f c9 (br_t c6 (br_t c6 (tp_call ht hu H))))))
          · obtain ⟨P', hp, ht⟩ := tp_moveP hP x7 ((x3 &&& 255) - (x3 &&& 255) / 144 * 144) (x4 &&& 63)
            refine ⟨P', up hp, fun u hu post H => ?_⟩
            obtain ⟨xop, xst, xvo, xhe, xns, xnm, xsl, xpa, xtr, xtd, xhp, ycc, xfi, xwa, xse, xlo, a1, a2, a3, a4, a5, a6, a7, a8, a9, a10, a11, a12, a13, a14, a15, a16⟩ := u
            exact br_t c1 (br_t c3 (br_t c7 (br_f c9 (br_f c6 ⟨by decide, br_f c6 (tp_call ht hu H)⟩))))
      · by_cases c6 : x6 = 0
        · obtain ⟨P', hp, ht⟩ := tp_putP hP x7 z0 x4
          refine ⟨P', up hp, fun u hu post H => ?_⟩
          obtain ⟨xop, xst, xvo, xhe, xns, xnm, xsl, xpa, xtr, xtd, xhp, ycc, xfi, xwa, xse, xlo, a1, a2, a3, a4, a5, a6, a7, a8, a9, a10, a11, a12, a13, a14, a15, a16⟩ := u
          exact br_t c1 (br_t c3 (br_f c7 (br_t c6 (tp_call ht hu H))))
        · obtain ⟨P', hp, ht⟩ := tp_putP hP x7 z0 ((x3 &&& 255) - 128)
          refine ⟨P', up hp, fun u hu post H => ?_⟩
          obtain ⟨xop, xst, xvo, xhe, xns, xnm, xsl, xpa, xtr, xtd, xhp, ycc, xfi, xwa, xse, xlo, a1, a2, a3, a4, a5, a6, a7, a8, a9, a10, a11, a12, a13, a14, a15, a16⟩ := u
          exact br_t c1 (br_t c3 (br_f c7 (br_f c6 (tp_call ht hu H))))
    · obtain ⟨P', hp, ht⟩ := tp_getP hP x7 z0
      refine ⟨P', up hp, fun u hu post H => ?_⟩
      obtain ⟨xop, xst, xvo, xhe, xns, xnm, xsl, xpa, xtr, xtd, xhp, ycc, xfi, xwa, xse, xlo, a1, a2, a3, a4, a5, a6, a7, a8, a9, a10, a11, a12, a13, a14, a15, a16⟩ := u
      exact br_t c1 (br_f c3 (tp_call ht hu H))
  · obtain ⟨P', hp, ht⟩ := tp_beginP hP
    refine ⟨P', up hp, fun u hu post H => ?_⟩
    obtain ⟨xop, xst, xvo, xhe, xns, xnm, xsl, xpa, xtr, xtd, xhp, ycc, xfi, xwa, xse, xlo, a1, a2, a3, a4, a5, a6, a7, a8, a9, a10, a11, a12, a13, a14, a15, a16⟩ := u
    exact br_f c1 (tp_call ht hu H)
theorem tp_turn {n : Nat} {ob : Nat → Bool} {hd wk wn nb im : Nat → Int32} {lg : Nat → List tp_Ent} {nm : Nat} {xcc : Int32} (hP : tp_IP n (ob, hd, wk, wn, nb, im, lg, nm, xcc)) (hn : n < 100000) (p1 p2 p3 p4 : Int32) : ∃ P', tp_IP (n + 1) P' ∧ tp_Tu (fun post u => wpL_turn post u p1 p2 p3 p4) (ob, hd, wk, wn, nb, im, lg, nm, xcc) P' := by
  by_cases c : (p1 &&& 16) = 0
  · obtain ⟨P', hp, ht⟩ := tp_turn52 hP hn p3 p4 (p1 &&& 15) 1 (p2 &&& 3) (((p2 >>> ((2 : Int32) &&& 31)) &&& 15) - ((p2 >>> ((2 : Int32) &&& 31)) &&& 15) / 12 * 12)
    refine ⟨P', hp, fun u hu post H => ?_⟩
    have h := ht u hu post H
    obtain ⟨xop, xst, xvo, xhe, xns, xnm, xsl, xpa, xtr, xtd, xhp, ycc, xfi, xwa, xse, xlo, a1, a2, a3, a4, a5, a6, a7, a8, a9, a10, a11, a12, a13, a14, a15, a16⟩ := u
    unfold wpL_turn
    refine nm_e (br_t c ?_)
    unfold wL_turn_18
    refine br_f (by decide) ?_
    unfold wL_turn_32
    exact br_f (by decide) ⟨by decide, h⟩
  · obtain ⟨P', hp, ht⟩ := tp_turn52 hP hn p3 p4 (p1 &&& 15) 0 p2 p3
    refine ⟨P', hp, fun u hu post H => ?_⟩
    have h := ht u hu post H
    obtain ⟨xop, xst, xvo, xhe, xns, xnm, xsl, xpa, xtr, xtd, xhp, ycc, xfi, xwa, xse, xlo, a1, a2, a3, a4, a5, a6, a7, a8, a9, a10, a11, a12, a13, a14, a15, a16⟩ := u
    unfold wpL_turn
    refine nm_e (br_f c ?_)
    unfold wL_turn_18
    refine br_t rfl ?_
    unfold wL_turn_32
    exact br_t rfl h
end
section
/-! aside: q is led aside and comes back to the same picture -/
theorem tp_Mt_cg {ob ob' : Nat → Bool} {hd hd' wk wk' wn wn' nb im : Nat → Int32} {lg : Nat → List tp_Ent} {nm : Nat} {cc : Int32} {u : St1} (h : tp_Mt (ob', hd', wk', wn', nb, im, lg, nm, cc) u)
    (e1 : ∀ t, t < 4 → ob' t = ob t) (e2 : ∀ k, k < 12 → hd' k = hd k) (e3 : ∀ t, t < 4 → wk' t = wk t) (e4 : ∀ t k, t < 4 → k < 12 → tp_bt (wk t) k = true → wn' (t * 12 + k) = wn (t * 12 + k)) : tp_Mt (ob, hd, wk, wn, nb, im, lg, nm, cc) u := by
  obtain ⟨xop, xst, xvo, xhe, xns, xnm, xsl, xpa, xtr, xtd, xhp, xcc, xfi, xwa, xse, xlo, a1, a2, a3, a4, a5, a6, a7, a8, a9, a10, a11, a12, a13, a14, a15, a16⟩ := u
  obtain ⟨q1, q2, q3, q4, h1, h2, h7, h8, h9, h10, h11, h12⟩ := h
  refine ⟨?_, q2, q3, q4, h1, h2, h7, fun k hk => ?_, fun t ht => ?_, fun t k ht hk hb => ?_, h11, fun t m ht ho hm => ?_⟩
  · rw [q1, tp_of_cg e1]
  · rw [h8 k hk, e2 k hk]
  · rw [h9 t ht, e3 t ht]
  · rw [h10 t k ht hk (by rw [e3 t ht]; exact hb), e4 t k ht hk hb]
  · exact h12 t m ht (by rw [e1 t ht]; exact ho) hm
theorem tp_moveB {post : Int32 → St1 → Prop} {xvo xhe xnm xsl xpa xtr xtd xhp xcc xfi xwa xse xlo : Int32} {a1 a2 a3 a4 a5 a6 a7 a8 a9 a10 a11 a12 a13 a14 a15 a16 : Nat → Int32} {ob : Nat → Bool}   {nm : Nat} {t b : Nat} {z : Int32} (ht : t < 4) (hb : b < 144) (he : b % 12 = b / 12) (H : post (-100000) (nI (tp_of ob), 0, xvo, xhe, nI nm, xnm, xsl, xpa, xtr, xtd, xhp, xcc, xfi, xwa, xse, xlo, a1, a2, a3, a4, a5, a6, a7, a8, a9, a10, a11, a12, a13, a14, a15, a16)) : wpX_move post (nI (tp_of ob), 0, xvo, xhe, nI nm, xnm, xsl, xpa, xtr, xtd, xhp, xcc, xfi, xwa, xse, xlo, a1, a2, a3, a4, a5, a6, a7, a8, a9, a10, a11, a12, a13, a14, a15, a16) (nI t) (nI b) z := by
  have er : nI b - nI b / 12 * 12 = nI (b % 12) := pk_rem (a := b) (d := 12) (by omega) (by omega) (by omega)
  have ed : nI b / 12 = nI (b / 12) := pk_div (a := b) (d := 12) (by omega) (by omega) (by omega)
  unfold wpX_move
  refine tp_isOpen (f := ob) ht rfl (fun _ => br_t rfl H) (fun _ => br_f (by decide) ?_)
  refine pk_lt b 0 (fun q => absurd q (by omega)) (fun _ => ?_)
  refine pk_le 144 b (fun q => absurd q (by omega)) (fun _ => ⟨by decide, by decide, ?_⟩)
  rw [er, ed, he]
  exact br_t rfl H
theorem tp_neg1 : ∀ j, j < 1024 → (-1 : Int32) - nI j < 0 := by decide +kernel
theorem tp_a287 {post : Int32 → St1 → Prop} {xvo xhe xnm xsl xpa xtr xtd xhp xcc xfi xwa xse xlo : Int32} {a1 a2 a3 a4 a5 a6 a7 a8 a9 a10 a11 a12 a13 a14 a15 a16 : Nat → Int32} {ob : Nat → Bool}   {nm : Nat} {x1 x2 : Int32} (H : post 1 (nI (tp_of ob), 0, xvo, xhe, nI nm, xnm, xsl, xpa, xtr, xtd, xhp, xcc, xfi, xwa, xse, xlo, a1, a2, a3, a4, a5, a6, a7, a8, a9, a10, a11, a12, a13, a14, a15, a16)) : wL_aside_287 post x1 x2 1 0 (nI (tp_of ob)) 0 xvo xhe (nI nm) xnm xsl xpa xtr xtd xhp xcc xfi xwa xse xlo a1 a2 a3 a4 a5 a6 a7 a8 a9 a10 a11 a12 a13 a14 a15 a16 := by
  obtain ⟨j, hj, ej⟩ := pk_andE x2 (m := 1023) 10 (by decide)
  obtain ⟨i, hi, ei⟩ := pk_andE x1 (m := 7) 3 (by decide)
  have hj' : j < 1024 := hj
  have hi' : i < 8 := hi
  have e4 : (4 : Int32) + (x2 &&& 1023) = nI (4 + j) := by rw [ej]; exact nI_add 4 j
  have e8 : (8 : Int32) + (x2 &&& 1023) = nI (8 + j) := by rw [ej]; exact nI_add 8 j
  have e13 : (13 : Int32) * (x1 &&& 7) = nI (13 * i) := by rw [ei]; exact pk_mul 13 i
  have g4 : nI (4 + j) < 0 ∨ 4 ≤ nI (4 + j) := Or.inr (nI_le (a := 4) (by omega) (by omega))
  unfold wL_aside_287
  rw [e4, e8, e13, ej]
  refine tp_getX (Or.inl g4) ?_
  refine tp_putX (Or.inl (Or.inl (tp_neg1 j hj'))) ?_
  refine tp_crashX g4 ?_
  refine tp_abortX (Or.inl g4) ?_
  refine tp_moveB (t := 0) (b := 13 * i) (by omega) (by omega) (by omega) ?_
  refine tp_commitX (Or.inr (Or.inr (Or.inl (Or.inr (nI_le (a := 8) (by omega) (by omega)))))) ?_
  exact br_f (by decide) (br_t rfl (br_t rfl (br_t rfl (br_t rfl (br_t rfl (br_t rfl (br_t rfl H)))))))
theorem tp_vH_iff {ob : Nat → Bool} {hd wk wn nb im : Nat → Int32} {lg : Nat → List tp_Ent} {nm : Nat} {k : Nat} (hI : tp_Inv ob hd wk wn nb im lg nm) (hk : k < 12) : tp_vH hd k = -200000 ↔ hd k = -1 := by
  unfold tp_vH
  rcases hI.1 k hk with e | ⟨t, ht, e, _⟩
  · rw [if_pos e]; exact ⟨fun _ => e, fun _ => rfl⟩
  · have h1 : ¬ hd k = -1 := by rw [e]; exact tp_m1 (by omega)
    rw [if_neg h1]
    refine ⟨fun z => absurd z ?_, fun z => absurd z h1⟩
    rw [e]
    exact (by decide +kernel : ∀ t, t < 4 → ¬ nI t = -200000) t ht
theorem tp_a203 {post : Int32 → St1 → Prop} {xvo xhe xnm xsl xpa xtr xtd xhp xcc xfi xwa xse xlo : Int32} {a1 a2 a3 a4 a5 a6 a7 a8 a9 a10 a11 a12 a13 a14 a15 a16 : Nat → Int32} {ob : Nat → Bool} {hd wk wn nb im : Nat → Int32} {lg : Nat → List tp_Ent} {nm : Nat} {x1 x2 : Int32} (hI : tp_Inv ob hd wk wn nb im lg nm) (hM : tp_Mt (ob, hd, wk, wn, nb, im, lg, nm, xcc) (nI (tp_of ob), 0, xvo, xhe, nI nm, xnm, xsl, xpa, xtr, xtd, xhp, xcc, xfi, xwa, xse, xlo, a1, a2, a3, a4, a5, a6, a7, a8, a9, a10, a11, a12, a13, a14, a15, a16)) (H : ∀ u', tp_Mt (ob, hd, wk, wn, nb, im, lg, nm, xcc) u' → post 1 u') : wL_aside_203 post x1 x2 1 (nI (tp_of ob)) 0 xvo xhe (nI nm) xnm xsl xpa xtr xtd xhp xcc xfi xwa xse xlo a1 a2 a3 a4 a5 a6 a7 a8 a9 a10 a11 a12 a13 a14 a15 a16 := by
  have hM' := hM
  obtain ⟨_, _, _, _, h1, h2, h7, h8, h9, h10, h11, h12⟩ := hM
  obtain ⟨j, hj, ej⟩ := pk_andE (x2 >>> ((10 : Int32) &&& 31)) (m := 3) 2 (by decide)
  have hj' : j < 4 := hj
  have em : ((x2 >>> ((10 : Int32) &&& 31)) &&& 3) - ((x2 >>> ((10 : Int32) &&& 31)) &&& 3) / 3 * 3 = nI (j % 3) := by
    rw [ej]; exact pk_rem (a := j) (d := 3) (by omega) (by omega) (by omega)
  have hm : j % 3 < 3 := by omega
  generalize j % 3 = m at em hm
  unfold wL_aside_203
  refine ⟨by decide, nm_r em ?_⟩
  have no : wL_aside_269 post x1 x2 1 (nI m) (nI (tp_of ob)) 0 xvo xhe (nI nm) xnm xsl xpa xtr xtd xhp xcc xfi xwa xse xlo a1 a2 a3 a4 a5 a6 a7 a8 a9 a10 a11 a12 a13 a14 a15 a16 := by
    unfold wL_aside_269 wL_aside_270
    exact br_t rfl (tp_a287 (H _ hM'))
  refine tp_holder (k := m) (by omega) h8 (br_c (fun z0 => ?_) (fun _ => no))
  rw [show nI m + 3 = nI (m + 3) from nI_add m 3, show nI m + 6 = nI (m + 6) from nI_add m 6, show nI m + 9 = nI (m + 9) from nI_add m 9]
  refine tp_holder (k := m + 3) (by omega) h8 (br_c (fun z1 => ?_) (fun _ => no))
  refine tp_holder (k := m + 6) (by omega) h8 (br_c (fun z2 => ?_) (fun _ => no))
  refine tp_holder (k := m + 9) (by omega) h8 (br_c (fun z3 => ?_) (fun _ => no))
  unfold wL_aside_270
  refine br_f (by decide) ?_
  have y0 := (tp_vH_iff hI (show m < 12 by omega)).mp z0
  have y1 := (tp_vH_iff hI (show m + 3 < 12 by omega)).mp z1
  have y2 := (tp_vH_iff hI (show m + 6 < 12 by omega)).mp z2
  have y3 := (tp_vH_iff hI (show m + 9 < 12 by omega)).mp z3
  have hno : ∀ s, s < 4 → tp_hit hd m s = false := by
    intro s hs
    have hne : ¬ (-1 : Int32) = nI s := fun z => tp_m1 (show s < 16 by omega) z.symm
    unfold tp_hit
    rw [y0, y1, y2, y3]
    simp [hne]
  refine tp_crashM hI hm hM' (fun n u' hn hu => ?_)
  have hn0 := hn hno
  subst hn0
  have hu' : tp_Mt (ob, hd, wk, wn, nb, im, lg, nm, xcc) u' := by
    refine tp_Mt_cg hu (fun t ht => ?_) (fun k hk => ?_) (fun t ht => ?_) (fun t k _ _ _ => rfl)
    · rw [hno t ht]; simp
    · show (if tp_hit hd m (hd k).toNatClampNeg = true then -1 else hd k) = hd k
      have hlt : (hd k).toNatClampNeg < 4 := by
        rcases hI.1 k hk with e | ⟨s, hs, e, _⟩
        · rw [e, tp_cm1]; omega
        · rw [e, nI_clamp (show s < 2 ^ 31 by omega)]; exact hs
      rw [hno _ hlt]; simp
    · show (if tp_hit hd m t = true then 0 else wk t) = wk t
      rw [hno t ht]; simp
  refine tp_Mt_el (Q := fun u => match u with | (xop, xst, xvo, xhe, xns, xnm, xsl, xpa, xtr, xtd, xhp, xcc, xfi, xwa, xse, xlo, a1, a2, a3, a4, a5, a6, a7, a8, a9, a10, a11, a12, a13, a14, a15, a16) => wL_aside_287 post x1 x2 1 0 xop xst xvo xhe xns xnm xsl xpa xtr xtd xhp xcc xfi xwa xse xlo a1 a2 a3 a4 a5 a6 a7 a8 a9 a10 a11 a12 a13 a14 a15 a16) hu' (fun xvo xhe xnm xsl xpa xtr xtd xhp xfi xwa xse xlo a1 a2 a3 a4 a5 a6 a7 a8 a9 a10 a11 a12 a13 a14 a15 a16 hM2 => ?_)
  exact tp_a287 (H _ hM2)
/-- the picture of q while its extra transaction t holds the keys 'held' -/
def tp_X (P : tp_Pic) (t : Nat) (held : Int32) (Q : tp_Pic) : Prop := match P, Q with
  | (ob, hd, wk, wn, nb, im, lg, nm, xcc), (ob', hd', wk', wn', nb', im', lg', nm', cc') => ob' = tp_ub ob t true ∧ nb' = nb ∧ im' = im ∧ lg' = lg ∧ nm' = nm ∧ cc' = xcc ∧ tp_W12 held ∧ (∀ k, k < 12 → hd' k = if tp_bt held k = true then nI t else hd k) ∧ (∀ k, k < 12 → tp_bt held k = true → hd k = -1) ∧ (∀ s, s < 4 → s ≠ t → wk' s = wk s) ∧ (∀ s k, s < 4 → k < 12 → s ≠ t → wn' (s * 12 + k) = wn (s * 12 + k)) ∧ tp_Inv ob' hd' wk' wn' nb' im' lg' nm'
theorem tp_ora {x : Int32} {k i : Nat} (hx : tp_W12 x) (hk : k < 12) : tp_bt (x ||| ((1 : Int32) <<< (nI k &&& 31))) i = (tp_bt x i || decide (i = k)) := by
  rcases Nat.lt_or_ge i 32 with hi | hi
  · rw [tp_bor, tp_one (by omega) hi]
  · rw [tp_bbig hi, tp_bbig hi]
    have : ¬ i = k := by omega
    simp [this]
theorem tp_X_hold {ob : Nat → Bool} {hd wk wn nb im : Nat → Int32} {lg : Nat → List tp_Ent} {nm : Nat} {xcc : Int32} {t k : Nat} {held : Int32} {hd' wk' wn' wk2 wn2 : Nat → Int32} (hI : tp_Inv ob hd wk wn nb im lg nm) (ht : t < 4) (hk : k < 12) (ho : ob t = false) (hX : tp_X (ob, hd, wk, wn, nb, im, lg, nm, xcc) t held (tp_ub ob t true, hd', wk', wn', nb, im, lg, nm, xcc)) (hf : hd' k = -1 ∨ hd' k = nI t)
    (h2 : ∀ s, s < 4 → s ≠ t → wk2 s = wk' s) (h3 : ∀ s j, s < 4 → j < 12 → s ≠ t → wn2 (s * 12 + j) = wn' (s * 12 + j)) (hi : tp_Inv (tp_ub ob t true) (upd hd' k (nI t)) wk2 wn2 nb im lg nm) :
    tp_X (ob, hd, wk, wn, nb, im, lg, nm, xcc) t (held ||| ((1 : Int32) <<< (nI k &&& 31))) (tp_ub ob t true, upd hd' k (nI t), wk2, wn2, nb, im, lg, nm, xcc) := by
  obtain ⟨_, _, _, _, _, _, w, x1, x2, x3, x4, _⟩ := hX
  have hnt : ∀ j, j < 12 → hd j ≠ nI t := by
    intro j hj e
    rcases hI.1 j hj with q | ⟨s, hs, q, hos⟩
    · exact tp_m1 (show t < 16 by omega) (e.symm.trans q)
    · have : s = t := tp_ni (by omega) (by omega) (q.symm.trans e)
      rw [this, ho] at hos
      exact absurd hos (by simp)
  refine ⟨rfl, rfl, rfl, rfl, rfl, rfl, fun i hi => ?_, fun j hj => ?_, fun j hj hb => ?_, fun s hs hne => ?_, fun s j hs hj hne => ?_, hi⟩
  · rw [tp_ora w hk, w i hi]
    have : ¬ i = k := by omega
    simp [this]
  · rw [tp_ora w hk]
    by_cases e : j = k
    · rw [e, pk_us]; simp
    · rw [pk_un e, x1 j hj]; simp [e]
  · rw [tp_ora w hk] at hb
    by_cases c : tp_bt held j = true
    · exact x2 j hj c
    · have e : j = k := by
        have c' : tp_bt held j = false := by simpa using c
        rw [c'] at hb
        simpa using hb
      subst e
      rw [x1 j hj, if_neg c] at hf
      rcases hf with q | q
      · exact q
      · exact absurd q (hnt j hj)
  · rw [h2 s hs hne]; exact x3 s hs hne
  · rw [h3 s j hs hj hne]; exact x4 s j hs hj hne
theorem tp_v100 : ∀ j, j < 256 → ¬ nI j - 100 < (-9999) ∧ ¬ 9999 < nI j - 100 := by decide +kernel
theorem tp_a136 {post : Int32 → St1 → Prop} {xop xst xvo xhe xns xnm xsl xpa xtr xtd xhp xcc xfi xwa xse xlo : Int32} {a1 a2 a3 a4 a5 a6 a7 a8 a9 a10 a11 a12 a13 a14 a15 a16 : Nat → Int32} {x1 x2 held : Int32} (H : wL_aside_177 post x1 x2 1 xop xst xvo xhe xns xnm xsl xpa xtr xtd xhp xcc xfi xwa xse xlo a1 a2 a3 a4 a5 a6 a7 a8 a9 a10 a11 a12 a13 a14 a15 a16) : ∃ n, wL_aside_136 post x1 x2 1 held (nI (tp_ct (tp_bt held) 12)) xop xst xvo xhe xns xnm xsl xpa xtr xtd xhp xcc xfi xwa xse xlo a1 a2 a3 a4 a5 a6 a7 a8 a9 a10 a11 a12 a13 a14 a15 a16 n 0 0 := by
  refine pk_loop (σ := Unit) (fun n k _ => wL_aside_136 post x1 x2 1 held (nI (tp_ct (tp_bt held) 12)) xop xst xvo xhe xns xnm xsl xpa xtr xtd xhp xcc xfi xwa xse xlo a1 a2 a3 a4 a5 a6 a7 a8 a9 a10 a11 a12 a13 a14 a15 a16 n (nI (tp_ct (tp_bt held) k)) (nI k)) (fun _ _ => True) 12 0 () (by omega) trivial ?_ ?_
  · intro n _ _
    exact pk_le 12 12 (fun _ => br_f (by decide) (br_t rfl H)) (fun z => absurd z (by omega))
  · intro n k _ hk _ hw
    have hw' := hw () trivial
    refine pk_le 12 k (fun z => absurd z (by omega)) (fun _ => ?_)
    refine nm_r (e' := nI (tp_ct (tp_bt held) (k + 1))) ?_ (nm_r (nI_1 k) hw')
    have ht := tp_tst (x := held) (n := k) (by omega)
    show nI (tp_ct (tp_bt held) k) + ((held >>> (nI k &&& 31)) &&& 1) = nI (tp_ct (tp_bt held) k + (if tp_bt held k = true then 1 else 0))
    rw [← nI_add]
    congr 1
    by_cases c : tp_bt held k = true
    · rw [if_pos c]
      have hne : ¬ ((held >>> (nI k &&& 31)) &&& 1) = 0 := fun z => absurd (ht.mp z) (by rw [c]; simp)
      obtain ⟨j, hj, ej⟩ := pk_andE (held >>> (nI k &&& 31)) (m := 1) 1 (by decide)
      have hj' : j < 2 := hj
      rw [ej] at hne ⊢
      have : j = 0 ∨ j = 1 := by omega
      rcases this with e | e
      · subst e; exact absurd rfl hne
      · rw [e]
    · rw [if_neg c]
      have c' : tp_bt held k = false := by simpa using c
      exact ht.mpr c'
theorem tp_a19end {post : Int32 → St1 → Prop} {xvo xhe xnm xsl xpa xtr xtd xhp xcc xfi xwa xse xlo : Int32} {a1 a2 a3 a4 a5 a6 a7 a8 a9 a10 a11 a12 a13 a14 a15 a16 : Nat → Int32} {ob : Nat → Bool} {hd wk wn nb im : Nat → Int32} {lg : Nat → List tp_Ent} {nm : Nat} {t : Nat} {held x1 x2 : Int32} {hd' wk' wn' : Nat → Int32} (hI : tp_Inv ob hd wk wn nb im lg nm) (ht : t < 4) (ho : ob t = false)
    (hX : tp_X (ob, hd, wk, wn, nb, im, lg, nm, xcc) t held (tp_ub ob t true, hd', wk', wn', nb, im, lg, nm, xcc)) (hM : tp_Mt (tp_ub ob t true, hd', wk', wn', nb, im, lg, nm, xcc) (nI (tp_of (tp_ub ob t true)), 0, xvo, xhe, nI nm, xnm, xsl, xpa, xtr, xtd, xhp, xcc, xfi, xwa, xse, xlo, a1, a2, a3, a4, a5, a6, a7, a8, a9, a10, a11, a12, a13, a14, a15, a16))
    (H : ∀ u', tp_Mt (ob, hd, wk, wn, nb, im, lg, nm, xcc) u' → post 1 u') : wpX_keys (fun r => ((r = held → (wL_aside_121 post x1 x2 (nI t) held 1 (nI (tp_of (tp_ub ob t true))) 0 xvo xhe (nI nm) xnm xsl xpa xtr xtd xhp xcc xfi xwa xse xlo a1 a2 a3 a4 a5 a6 a7 a8 a9 a10 a11 a12 a13 a14 a15 a16)) ∧ (¬ r = held → (wL_aside_121 post x1 x2 (nI t) held 0 (nI (tp_of (tp_ub ob t true))) 0 xvo xhe (nI nm) xnm xsl xpa xtr xtd xhp xcc xfi xwa xse xlo a1 a2 a3 a4 a5 a6 a7 a8 a9 a10 a11 a12 a13 a14 a15 a16)))) (nI (tp_of (tp_ub ob t true)), 0, xvo, xhe, nI nm, xnm, xsl, xpa, xtr, xtd, xhp, xcc, xfi, xwa, xse, xlo, a1, a2, a3, a4, a5, a6, a7, a8, a9, a10, a11, a12, a13, a14, a15, a16) (nI t) := by
  have hX' := hX
  obtain ⟨_, _, _, _, _, _, w, x1', x2', x3', x4', hi⟩ := hX
  have hnt : ∀ j, j < 12 → hd j ≠ nI t := by
    intro j hj e
    rcases hI.1 j hj with q | ⟨s, hs, q, hos⟩
    · exact tp_m1 (show t < 16 by omega) (e.symm.trans q)
    · have : s = t := tp_ni (by omega) (by omega) (q.symm.trans e)
      rw [this, ho] at hos
      exact absurd hos (by simp)
  have hbit : ∀ j, j < 12 → decide (hd' j = nI t) = tp_bt held j := by
    intro j hj
    rw [x1' j hj]
    cases c : tp_bt held j
    · simp [hnt j hj]
    · simp
  refine tp_keys (ob := tp_ub ob t true) (hd := hd') (by omega) hM.2.2.2.2.2.2.2.1 ?_
  have hk : tp_vK (tp_ub ob t true) hd' t = held := by
    unfold tp_vK
    rw [if_pos ⟨ht, by simp [tp_ub]⟩]
    apply tp_bext
    intro i hi
    rw [tp_kz_bt _ hi 12 (by omega)]
    by_cases c : i < 12
    · rw [hbit i c]; simp [c]
    · rw [w i (by omega)]; simp [c]
  refine br_t hk ?_
  unfold wL_aside_121
  refine tp_abortG hi ht (by simp [tp_ub]) hM (fun u' hu => ?_)
  rw [tp_ct_cg (g := tp_bt held) 12 hbit]
  have hu' : tp_Mt (ob, hd, wk, wn, nb, im, lg, nm, xcc) u' := by
    refine tp_Mt_cg hu (fun s hs => ?_) (fun k hk => ?_) (fun s hs => ?_) (fun s k hs hk hb => ?_)
    · unfold tp_ub
      by_cases e : s = t
      · rw [if_pos e, e, ho]
      · rw [if_neg e, if_neg e]
    · show (if k < 12 ∧ hd' k = nI t then -1 else hd' k) = hd k
      rw [x1' k hk]
      by_cases c : tp_bt held k = true
      · rw [if_pos c, if_pos ⟨hk, rfl⟩]; exact (x2' k hk c).symm
      · rw [if_neg c, if_neg (fun z => hnt k hk z.2)]
    · by_cases e : s = t
      · rw [e, pk_us]; exact ((hI.2.1 t ht).2 ho).symm
      · rw [pk_un e]; exact x3' s hs e
    · refine x4' s k hs hk (fun e => ?_)
      rw [e, (hI.2.1 t ht).2 ho, tp_b0] at hb
      exact absurd hb (by simp)
  refine tp_Mt_el (Q := fun u => match u with | (xop, xst, xvo, xhe, xns, xnm, xsl, xpa, xtr, xtd, xhp, xcc, xfi, xwa, xse, xlo, a1, a2, a3, a4, a5, a6, a7, a8, a9, a10, a11, a12, a13, a14, a15, a16) => ∃ n, wL_aside_136 post x1 x2 1 held (nI (tp_ct (tp_bt held) 12)) xop xst xvo xhe xns xnm xsl xpa xtr xtd xhp xcc xfi xwa xse xlo a1 a2 a3 a4 a5 a6 a7 a8 a9 a10 a11 a12 a13 a14 a15 a16 n 0 0) hu' (fun xvo xhe xnm xsl xpa xtr xtd xhp xfi xwa xse xlo a1 a2 a3 a4 a5 a6 a7 a8 a9 a10 a11 a12 a13 a14 a15 a16 hM2 => ?_)
  refine tp_a136 ?_
  unfold wL_aside_177
  exact tp_a203 hI hM2 H
def tp_u19 (post : Int32 → St1 → Prop) (x1 x2 x4 : Int32) (n : Nat) (x5 x6 : Int32) (u : St1) : Prop := match u with
  | (xop, xst, xvo, xhe, xns, xnm, xsl, xpa, xtr, xtd, xhp, xcc, xfi, xwa, xse, xlo, a1, a2, a3, a4, a5, a6, a7, a8, a9, a10, a11, a12, a13, a14, a15, a16) => wL_aside_19 post x1 x2 x4 n x5 x6 xop xst xvo xhe xns xnm xsl xpa xtr xtd xhp xcc xfi xwa xse xlo a1 a2 a3 a4 a5 a6 a7 a8 a9 a10 a11 a12 a13 a14 a15 a16
theorem tp_a75 {post : Int32 → St1 → Prop} {t k n i : Nat} {x1 x2 r held : Int32} {u : St1} {Q : tp_Pic} (hu : tp_Mt Q u)
    (H1 : ¬ r < (-9999) → tp_u19 post x1 x2 (nI t) n (held ||| ((1 : Int32) <<< (nI k &&& 31))) (nI (i + 1)) u) (H0 : r < (-9999) → tp_u19 post x1 x2 (nI t) n held (nI (i + 1)) u) :
    match u with | (xop, xst, xvo, xhe, xns, xnm, xsl, xpa, xtr, xtd, xhp, xcc, xfi, xwa, xse, xlo, a1, a2, a3, a4, a5, a6, a7, a8, a9, a10, a11, a12, a13, a14, a15, a16) => wL_aside_75 post (wL_aside_19 post x1 x2 (nI t) n) x1 x2 (nI t) held (nI i) (nI k) r xop xst xvo xhe xns xnm xsl xpa xtr xtd xhp xcc xfi xwa xse xlo a1 a2 a3 a4 a5 a6 a7 a8 a9 a10 a11 a12 a13 a14 a15 a16 := by
  obtain ⟨xop, xst, xvo, xhe, xns, xnm, xsl, xpa, xtr, xtd, xhp, xcc, xfi, xwa, xse, xlo, a1, a2, a3, a4, a5, a6, a7, a8, a9, a10, a11, a12, a13, a14, a15, a16⟩ := u
  show wL_aside_75 post (wL_aside_19 post x1 x2 (nI t) n) x1 x2 (nI t) held (nI i) (nI k) r xop xst xvo xhe xns xnm xsl xpa xtr xtd xhp xcc xfi xwa xse xlo a1 a2 a3 a4 a5 a6 a7 a8 a9 a10 a11 a12 a13 a14 a15 a16
  unfold wL_aside_75
  exact br_c (fun z => nm_r (nI_1 i) (H0 z)) (fun z => nm_e (nm_r (nI_1 i) (H1 z)))
/-- one of the three calls -/
theorem tp_a19s {post : Int32 → St1 → Prop} {ob : Nat → Bool} {hd wk wn nb im : Nat → Int32} {lg : Nat → List tp_Ent} {nm : Nat} {xcc : Int32} {t n i : Nat} {held x1 x2 : Int32} {hd' wk' wn' : Nat → Int32} {u : St1} (hI : tp_Inv ob hd wk wn nb im lg nm) (ht : t < 4) (ho : ob t = false) (hi3 : i < 3)
    (hX : tp_X (ob, hd, wk, wn, nb, im, lg, nm, xcc) t held (tp_ub ob t true, hd', wk', wn', nb, im, lg, nm, xcc)) (hM : tp_Mt (tp_ub ob t true, hd', wk', wn', nb, im, lg, nm, xcc) u)
    (H : ∀ held2 hd2 wk2 wn2 u', tp_X (ob, hd, wk, wn, nb, im, lg, nm, xcc) t held2 (tp_ub ob t true, hd2, wk2, wn2, nb, im, lg, nm, xcc) → tp_Mt (tp_ub ob t true, hd2, wk2, wn2, nb, im, lg, nm, xcc) u' → tp_u19 post x1 x2 (nI t) n held2 (nI (i + 1)) u') :
    tp_u19 post x1 x2 (nI t) (n + 1) held (nI i) u := by
  refine tp_Mt_el (Q := fun u => tp_u19 post x1 x2 (nI t) (n + 1) held (nI i) u) hM (fun xvo xhe xnm xsl xpa xtr xtd xhp xfi xwa xse xlo a1 a2 a3 a4 a5 a6 a7 a8 a9 a10 a11 a12 a13 a14 a15 a16 hM' => ?_)
  have hX' := hX
  obtain ⟨_, _, _, _, _, _, w, x1', x2', x3', x4', hi⟩ := hX
  obtain ⟨j, hj, ej⟩ := pk_andE (x1 >>> ((4 * nI i) &&& 31)) (m := 15) 4 (by decide)
  have hj' : j < 16 := hj
  have ek : ((x1 >>> ((4 * nI i) &&& 31)) &&& 15) - ((x1 >>> ((4 * nI i) &&& 31)) &&& 15) / 12 * 12 = nI (j % 12) := by
    rw [ej]; exact pk_rem (a := j) (d := 12) (by omega) (by omega) (by omega)
  have hk : j % 12 < 12 := by omega
  generalize j % 12 = k at ek hk
  have hot : tp_ub ob t true t = true := by simp [tp_ub]
  have hR := tp_sn_R hi ht hk
  unfold tp_u19
  refine pk_le 3 i (fun z => absurd z (by omega)) (fun _ => ⟨by decide, nm_r ek ?_⟩)
  refine pk_le 2 i (fun z => ?_) (fun z => ?_)
  · refine tp_getG hi ht hk hot hM' (fun hf u' hu => ?_) (fun hf => ?_)
    · refine tp_a75 hu (fun _ => ?_) (fun q => absurd q hR.1)
      exact H _ _ _ _ u' (tp_X_hold hI ht hk ho hX' hf (fun _ _ _ => rfl) (fun _ _ _ _ _ => rfl) (tp_Inv_hold hi ht hk hot hf)) hu
    · refine tp_a75 hM' (fun q => absurd (show (-300000 : Int32) < -9999 by decide) q) (fun _ => ?_)
      exact H held hd' wk' wn' _ hX' hM'
  · obtain ⟨b, hb, eb⟩ := pk_andE (x2 >>> (nI i &&& 31)) (m := 255) 8 (by decide)
    have hb' : b < 256 := hb
    have hv : tp_inR (((x2 >>> (nI i &&& 31)) &&& 255) - 100) := by rw [eb]; exact tp_v100 b hb'
    refine tp_putG hi ht hk hot hv hM' (fun hf u' hu => ?_) (fun hf => ?_)
    · refine tp_a75 hu (fun _ => ?_) (fun q => absurd q hR.1)
      exact H _ _ _ _ u' (tp_X_hold hI ht hk ho hX' hf (fun s _ hne => pk_un hne) (fun s j hs hj hne => pk_un (by omega)) (tp_Inv_write hi ht hk hot hf hv)) hu
    · refine tp_a75 hM' (fun q => absurd (show (-300000 : Int32) < -9999 by decide) q) (fun _ => ?_)
      exact H held hd' wk' wn' _ hX' hM'
theorem tp_aside {post : Int32 → St1 → Prop} {ob : Nat → Bool} {hd wk wn nb im : Nat → Int32} {lg : Nat → List tp_Ent} {nm : Nat} {xcc : Int32} {u : St1} {p1 p2 : Int32} (hI : tp_Inv ob hd wk wn nb im lg nm) (hu : tp_Mt (ob, hd, wk, wn, nb, im, lg, nm, xcc) u) (H : ∀ u', tp_Mt (ob, hd, wk, wn, nb, im, lg, nm, xcc) u' → post 1 u') : wpL_aside post u p1 p2 := by
  refine tp_Mt_el (Q := fun u => wpL_aside post u p1 p2) hu (fun xvo xhe xnm xsl xpa xtr xtd xhp xfi xwa xse xlo a1 a2 a3 a4 a5 a6 a7 a8 a9 a10 a11 a12 a13 a14 a15 a16 hM => ?_)
  unfold wpL_aside
  refine tp_beginW hI hM (fun hall => ?_) (fun t ht ho _ u' hu' => ?_)
  · refine br_t (by decide) (br_t rfl ?_)
    have e15 : nI (tp_of ob) = 15 := by
      rw [tp_of_cg (g := fun _ => true) hall]
      rfl
    unfold wpX_open
    refine br_t e15 ?_
    unfold wL_aside_202
    exact tp_a203 hI hM H
  · have hX0 : tp_X (ob, hd, wk, wn, nb, im, lg, nm, xcc) t 0 (tp_ub ob t true, hd, wk, wn, nb, im, lg, nm, xcc) := by
      refine ⟨rfl, rfl, rfl, rfl, rfl, rfl, tp_W12_0, fun k hk => ?_, fun k hk hb => ?_, fun _ _ _ => rfl, fun _ _ _ _ _ => rfl, tp_Inv_open hI⟩
      · rw [tp_b0]; simp
      · rw [tp_b0] at hb; exact absurd hb (by simp)
    have h19 : tp_u19 post p1 p2 (nI t) 4 0 (nI 0) u' := by
      refine tp_a19s hI ht ho (by omega) hX0 hu' (fun held1 hd1 wk1 wn1 u1 hX1 hu1 => ?_)
      refine tp_a19s hI ht ho (by omega) hX1 hu1 (fun held2 hd2 wk2 wn2 u2 hX2 hu2 => ?_)
      refine tp_a19s hI ht ho (by omega) hX2 hu2 (fun held3 hd3 wk3 wn3 u3 hX3 hu3 => ?_)
      refine tp_Mt_el (Q := fun u => tp_u19 post p1 p2 (nI t) 1 held3 (nI (0 + 1 + 1 + 1)) u) hu3 (fun xvo xhe xnm xsl xpa xtr xtd xhp xfi xwa xse xlo a1 a2 a3 a4 a5 a6 a7 a8 a9 a10 a11 a12 a13 a14 a15 a16 hM3 => ?_)
      unfold tp_u19
      exact pk_le 3 3 (fun _ => tp_a19end hI ht ho hX3 hM3 H) (fun z => absurd z (by omega))
    obtain ⟨xop, xst, xvo, xhe, xns, xnm, xsl, xpa, xtr, xtd, xhp, ycc, xfi, xwa, xse, xlo, a1, a2, a3, a4, a5, a6, a7, a8, a9, a10, a11, a12, a13, a14, a15, a16⟩ := u'
    exact br_f (nI_pos (by omega)) ⟨4, h19⟩
end
section
/-! the law -/
def tp_P0 : tp_Pic := (fun _ => false, fun _ => -1, fun _ => 0, fun _ => 0, fun _ => 0, fun _ => 0, fun _ => [], 0, 0)
theorem tp_IP0 : tp_IP 0 tp_P0 := by
  refine ⟨⟨fun k _ => Or.inl rfl, fun t _ => ⟨tp_W12_0, fun _ => rfl⟩, fun t k _ _ hb => ?_, fun t k _ _ hb => ?_, fun k _ => ⟨show ¬ (0 : Int32) < (-9999) by decide, show ¬ 9999 < (0 : Int32) by decide⟩, fun m _ => ⟨show ([] : List tp_Ent).length ≤ 40 by decide, fun e he => absurd he List.not_mem_nil⟩, fun m _ => ⟨rfl, fun k _ _ => rfl⟩⟩, Nat.le_refl 0⟩
  · rw [tp_b0] at hb; exact absurd hb (by simp)
  · rw [tp_b0] at hb; exact absurd hb (by simp)
theorem tp_init {post : St1 → Prop} (H : ∀ u, tp_Mt tp_P0 u → post u) : wpX_init post 16 1396 (0, 0, 0, 0, 0, 0, 0, 0, 0, 0, 0, 0, 0, 0, 0, 0) := by
  unfold wpX_init
  refine ⟨by omega, by omega, by omega, by omega, by omega, by omega, by omega, by omega, by omega, by omega, by omega, by omega, by omega, by omega, by omega, by omega, by omega, by omega, by omega, by omega, by omega, by omega, by omega, by omega, by omega, by omega, by omega, by omega, by omega, by omega, by omega, by omega, ?_⟩
  refine pk_loop (σ := Nat → Int32) (fun n i s => wX_init_136 post 16 1396 16 1396 0 0 0 0 0 0 0 0 0 0 0 0 0 0 0 0 n (nI i) (fun _ => 0) (fun _ => 0) (fun _ => 0) (fun _ => 0) (fun _ => 0) (fun _ => 0) (fun _ => 0) s (fun _ => 0) (fun _ => 0) (fun _ => 0) (fun _ => 0) (fun _ => 0) (fun _ => 0) (fun _ => 0) (fun _ => 0)) (fun i s => ∀ k, k < i → s k = -1) 12 0 (fun _ => 0) (by omega) (fun k hk => absurd hk (by omega)) ?_ ?_
  · intro n s hs
    refine pk_le 12 12 (fun _ => H _ ?_) (fun z => absurd z (by omega))
    refine ⟨rfl, rfl, rfl, rfl, fun _ _ => rfl, fun m hm => ⟨⟨rfl, fun i e hx => absurd hx (by simp)⟩, by simp, fun e he => absurd he List.not_mem_nil⟩, fun _ _ => rfl, hs, fun _ _ => rfl, fun t k _ _ hb => rfl, fun _ _ _ _ => rfl, fun _ _ _ _ _ => rfl⟩
  · intro n i s hi hs hw
    refine pk_le 12 i (fun z => absurd z (by omega)) (fun _ => ⟨pk_in i 12 hi, ?_⟩)
    refine nm_r (e' := upd s i (-1)) (by rw [nI_clamp (show i < 2 ^ 31 by omega)]) (nm_r (nI_1 i) (hw _ (fun k hk => ?_)))
    by_cases e : k = i
    · rw [e, pk_us]
    · rw [pk_un e]; exact hs k (by omega)
def tp_u18 (post : Int32 → Prop) (L : Nat) (xs : Nat → Int32) (kc ks n : Nat) (x3 : Int32) (u v : St1) : Prop := match u, v with
  | (xop, xst, xvo, xhe, xns, xnm, xsl, xpa, xtr, xtd, xhp, xcc, xfi, xwa, xse, xlo, a1, a2, a3, a4, a5, a6, a7, a8, a9, a10, a11, a12, a13, a14, a15, a16), (xop', xst', xvo', xhe', xns', xnm', xsl', xpa', xtr', xtd', xhp', xcc', xfi', xwa', xse', xlo', a1', a2', a3', a4', a5', a6', a7', a8', a9', a10', a11', a12', a13', a14', a15', a16') => wL_law_18 post L xs kc ks n x3 xop xst xvo xhe xns xnm xsl xpa xtr xtd xhp xcc xfi xwa xse xlo a1 a2 a3 a4 a5 a6 a7 a8 a9 a10 a11 a12 a13 a14 a15 a16 xop' xst' xvo' xhe' xns' xnm' xsl' xpa' xtr' xtd' xhp' xcc' xfi' xwa' xse' xlo' a1' a2' a3' a4' a5' a6' a7' a8' a9' a10' a11' a12' a13' a14' a15' a16'
theorem tp_lawL {L : Nat} {xs : Nat → Int32} {kc ks : Nat} (hL : L ≤ 260) : ∀ (n j : Nat) (P : tp_Pic) (u v : St1), j < 1000 → tp_IP j P → tp_Mt P u → tp_Mt P v → L ≤ 4 * (j + n) → tp_u18 (fun r => r = 1) L xs kc ks (n + 1) (nI (4 * j)) u v := by
  intro n
  induction n with
  | zero =>
    intro j P u v _ _ _ _ hle
    obtain ⟨xop, xst, xvo, xhe, xns, xnm, xsl, xpa, xtr, xtd, xhp, xcc, xfi, xwa, xse, xlo, a1, a2, a3, a4, a5, a6, a7, a8, a9, a10, a11, a12, a13, a14, a15, a16⟩ := u
    obtain ⟨yop, yst, yvo, yhe, yns, ynm, ysl, ypa, ytr, ytd, yhp, ycc, yfi, ywa, yse, ylo, b1, b2, b3, b4, b5, b6, b7, b8, b9, b10, b11, b12, b13, b14, b15, b16⟩ := v
    exact pk_le L (4 * j + 3) (fun _ => rfl) (fun z => absurd z (by omega)) rfl (nI_add (4 * j) 3)
  | succ n ih =>
    intro j P u v hj hP hu hv hle
    obtain ⟨ob, hd, wk, wn, nb, im, lg, nm, cc⟩ := P
    obtain ⟨P', hP', hT⟩ := tp_turn hP (by omega) (xs (nI (4 * j)).toNatClampNeg) (xs (nI (4 * j) + 1).toNatClampNeg) (xs (nI (4 * j) + 2).toNatClampNeg) (xs (nI (4 * j) + 3).toNatClampNeg)
    obtain ⟨xop, xst, xvo, xhe, xns, xnm, xsl, xpa, xtr, xtd, xhp, xcc, xfi, xwa, xse, xlo, a1, a2, a3, a4, a5, a6, a7, a8, a9, a10, a11, a12, a13, a14, a15, a16⟩ := u
    obtain ⟨yop, yst, yvo, yhe, yns, ynm, ysl, ypa, ytr, ytd, yhp, ycc, yfi, ywa, yse, ylo, b1, b2, b3, b4, b5, b6, b7, b8, b9, b10, b11, b12, b13, b14, b15, b16⟩ := v
    refine pk_le L (4 * j + 3) (fun _ => rfl) (fun hlt => ?_) rfl (nI_add (4 * j) 3)
    have v0 : vp_in (nI (4 * j)) L := pk_in (4 * j) L (by omega)
    have v1 : vp_in (nI (4 * j) + 1) L := pk_in (4 * j + 1) L (by omega) (nI_add (4 * j) 1)
    have v2 : vp_in (nI (4 * j) + 2) L := pk_in (4 * j + 2) L (by omega) (nI_add (4 * j) 2)
    have v3 : vp_in (nI (4 * j) + 3) L := pk_in (4 * j + 3) L (by omega) (nI_add (4 * j) 3)
    refine ⟨v0, v1, v2, v3, ?_⟩
    refine hT _ hu _ (fun u' hu' => ?_)
    obtain ⟨xop, xst, xvo, xhe, xns, xnm, xsl, xpa, xtr, xtd, xhp, xcc, xfi, xwa, xse, xlo, a1, a2, a3, a4, a5, a6, a7, a8, a9, a10, a11, a12, a13, a14, a15, a16⟩ := u'
    refine ⟨v0, v1, v2, v3, ?_⟩
    refine hT _ hv _ (fun v' hv' => ?_)
    obtain ⟨yop, yst, yvo, yhe, yns, ynm, ysl, ypa, ytr, ytd, yhp, ycc, yfi, ywa, yse, ylo, b1, b2, b3, b4, b5, b6, b7, b8, b9, b10, b11, b12, b13, b14, b15, b16⟩ := v'
    refine ⟨v1, v2, ?_⟩
    obtain ⟨ob', hd', wk', wn', nb', im', lg', nm', cc'⟩ := P'
    refine tp_aside hP'.1 hv' (fun w hw => ?_)
    obtain ⟨zop, zst, zvo, zhe, zns, znm, zsl, zpa, ztr, ztd, zhp, zcc, zfi, zwa, zse, zlo, c1, c2, c3, c4, c5, c6, c7, c8, c9, c10, c11, c12, c13, c14, c15, c16⟩ := w
    refine br_f (by decide) ?_
    have hu2 := hu'
    have hw2 := hw
    obtain ⟨e1, e2, e3, e4, _⟩ := hu2
    obtain ⟨g1, g2, g3, g4, _⟩ := hw2
    subst e1 e2 e3 e4 g1 g2 g3 g4
    refine tp_alike hu' hw ?_
    refine br_f (by decide) (nm_r (nI_add (4 * j) 4) ?_)
    have h := ih (j + 1) _ _ _ (by omega) hP' hu' hw (by omega)
    rw [show 4 * (j + 1) = 4 * j + 4 by omega] at h
    exact h
theorem i_vc (xs : Nat → Int32) (L : Nat) (hL : L ≤ 260) : wpL_law (fun r => r = 1) L xs := by
  unfold wpL_law
  refine ⟨16, 1396, by omega, by omega, ?_⟩
  refine tp_init (fun u hu => ?_)
  obtain ⟨xop, xst, xvo, xhe, xns, xnm, xsl, xpa, xtr, xtd, xhp, xcc, xfi, xwa, xse, xlo, a1, a2, a3, a4, a5, a6, a7, a8, a9, a10, a11, a12, a13, a14, a15, a16⟩ := u
  refine ⟨by omega, by omega, 16, 1396, by omega, by omega, ?_⟩
  refine tp_init (fun v hv => ?_)
  obtain ⟨yop, yst, yvo, yhe, yns, ynm, ysl, ypa, ytr, ytd, yhp, ycc, yfi, ywa, yse, ylo, b1, b2, b3, b4, b5, b6, b7, b8, b9, b10, b11, b12, b13, b14, b15, b16⟩ := v
  have h := tp_lawL (xs := xs) (kc := 1 + 16 + 1 + 16) (ks := 32 + 1396 + 32 + 1396) hL 65 0 tp_P0 _ _ (by omega) tp_IP0 hu hv (by omega)
  refine ⟨65 + 1, ?_⟩
  exact h
end
