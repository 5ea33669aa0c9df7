section
/-! ===== bits of an Int32 (began as rows of kit/laws/BITS.to-paste), 0 and 1 for a Bool ===== -/
def ca_bt (x : Int32) (i : Nat) : Bool := x.toBitVec.getLsbD i
theorem ca_ext {x y : Int32} (h : ∀ i, i < 32 → ca_bt x i = ca_bt y i) : x = y := Int32.toBitVec_inj.mp (BitVec.eq_of_getLsbD_eq (fun i hi => h i hi))
theorem ca_or (x y : Int32) (i : Nat) : ca_bt (x ||| y) i = (ca_bt x i || ca_bt y i) := by unfold ca_bt; rw [Int32.toBitVec_or, BitVec.getLsbD_or]
theorem ca_and (x y : Int32) (i : Nat) : ca_bt (x &&& y) i = (ca_bt x i && ca_bt y i) := by unfold ca_bt; rw [Int32.toBitVec_and, BitVec.getLsbD_and]
theorem ca_b0 (i : Nat) : ca_bt 0 i = false := BitVec.getLsbD_zero
theorem ca_sl : ∀ n, n < 32 → ((nI n &&& 31).toBitVec.smod 32).toNat = n := by decide +kernel
theorem ca_sshr (n : Nat) (hn : n < 32) (x : Int32) {i : Nat} (hi : i < 32) : ca_bt (x >>> (nI n &&& 31)) i = if n + i < 32 then ca_bt x (n + i) else ca_bt x 31 := by
  unfold ca_bt
  rw [Int32.toBitVec_shiftRight]
  show (x.toBitVec.sshiftRight ((nI n &&& 31).toBitVec.smod 32).toNat).getLsbD i = _
  rw [ca_sl n hn, BitVec.getLsbD_sshiftRight, BitVec.msb_eq_getLsbD_last]
  simp [hi]
theorem ca_b1 : ∀ i, i < 32 → ca_bt 1 i = decide (i = 0) := by decide +kernel
/-- the word 1 << t -/
theorem ca_one : ∀ t, t < 32 → ∀ i, i < 32 → ca_bt ((1 : Int32) <<< (nI t &&& 31)) i = decide (i = t) := by decide +kernel
/-- a Bool as an int -/
def ca_b (b : Bool) : Int32 := if b then 1 else 0
theorem ca_bb : ∀ b i, i < 32 → ca_bt (ca_b b) i = (b && decide (i = 0)) := by decide +kernel
theorem ca_sh1 (x : Int32) (t : Nat) (ht : t < 32) : (x >>> (nI t &&& 31)) &&& 1 = ca_b (ca_bt x t) := by
  apply ca_ext
  intro i hi
  rw [ca_and, ca_b1 i hi, ca_bb _ i hi, ca_sshr t ht x hi]
  by_cases e : i = 0
  · subst e
    rw [Nat.add_zero, if_pos ht]
  · simp [e]
theorem ca_nb (v : Bool) : narrow .boolean (.int (ca_b v)) = .int (ca_b v) := by cases v <;> rfl
theorem ca_bt0 : ca_b false = 0 := rfl
theorem ca_bt1 : ca_b true = 1 := rfl
/-- a test of a Bool's int against 0 -/
theorem ca_z {A B : Prop} (v : Bool) (f : v = false → A) (g : v = true → B) : (ca_b v = 0 → A) ∧ (¬ ca_b v = 0 → B) := by
  cases v
  · exact ⟨fun _ => f rfl, fun z => absurd rfl z⟩
  · exact ⟨fun z => absurd z (by decide), fun _ => g rfl⟩
theorem ca_o {A B : Prop} (v : Bool) (f : v = true → A) (g : v = false → B) : (ca_b v = 1 → A) ∧ (¬ ca_b v = 1 → B) := by
  cases v
  · exact ⟨fun z => absurd z (by decide), fun _ => g rfl⟩
  · exact ⟨fun _ => f rfl, fun z => absurd rfl z⟩
theorem ca_bi {a b : Bool} : ca_b a = ca_b b ↔ a = b := by
  constructor
  · intro h
    cases a <;> cases b <;> first | rfl | exact absurd h (by decide)
  · intro h
    rw [h]
/-- the method bit -/
theorem ca_wbit {post : Int32 → Prop} {x y : Int32} (t : Nat) (H : post (ca_b (ca_bt x t))) (hy : y = nI t := by rfl) (ht : t < 32 := by omega) : wpX_bit post () x y := by
  subst hy
  unfold wpX_bit
  rw [ca_sh1 x t ht]
  refine ca_o _ (fun h => ?_) (fun h => ?_)
  · rw [h] at H
    exact H
  · rw [h] at H
    exact H
theorem ca_wbitA {post : Int32 → Prop} {x y : Int32} (H : ∀ v, post (ca_b v)) : wpX_bit post () x y := br_c (fun _ => H true) (fun _ => H false)
/-- set one bit of now if v -/
def ca_set (x : Int32) (t : Nat) (v : Bool) : Int32 := if v then x ||| ((1 : Int32) <<< (nI t &&& 31)) else x
theorem ca_set_b (x : Int32) {t i : Nat} (v : Bool) (ht : t < 32) (hi : i < 32) : ca_bt (ca_set x t v) i = (ca_bt x i || (v && decide (i = t))) := by
  unfold ca_set
  cases v
  · simp
  · rw [if_pos rfl, ca_or, ca_one t ht i hi, Bool.true_and]
theorem ca_set_n (x : Int32) {t i : Nat} (v : Bool) (ht : t < 32) (hi : i < 32) (h : i ≠ t) : ca_bt (ca_set x t v) i = ca_bt x i := by
  rw [ca_set_b x v ht hi, decide_eq_false h]
  simp
theorem ca_set_s (x : Int32) {t : Nat} (v : Bool) (ht : t < 32) (h : ca_bt x t = false) : ca_bt (ca_set x t v) t = v := by
  rw [ca_set_b x v ht ht, h]
  simp
/-! ===== the counter of four bits ===== -/
/-- rows on lN that began as rows of kit/laws/BITS.to-paste -/
theorem ca_ltb (n : Nat) : (lN n).toBitVec = BitVec.ofNat 64 n := rfl
theorem ca_linj {a b : Int64} (h : a.toBitVec = b.toBitVec) : a = b := Int64.toBitVec_inj.mp h
theorem ca_ltn {n : Nat} (h : n < 2 ^ 64) : (lN n).toBitVec.toNat = n := by rw [ca_ltb, BitVec.toNat_ofNat, Nat.mod_eq_of_lt h]
theorem ca_lof (x : Int64) : ∃ n, n < 2 ^ 64 ∧ x = lN n := ⟨x.toBitVec.toNat, x.toBitVec.isLt, ca_linj (by rw [ca_ltb]; simp)⟩
theorem ca_lc : ∀ k, k < 64 → ((nI k).toInt64 &&& 63) = lN k := by decide +kernel
theorem ca_lcu : ∀ k, k < 64 → ((nI k).toInt64.toUInt64 &&& Int64.toUInt64 63) = UInt64.ofNat k := by decide +kernel
theorem ca_lsm : ∀ k, k < 64 → (BitVec.ofNat 64 k).smod 64 = BitVec.ofNat 64 k := by decide +kernel
theorem ca_lmod (n : Nat) : lN n = lN (n % 2 ^ 64) := ca_linj (by rw [ca_ltb, ca_ltb]; apply BitVec.eq_of_toNat_eq; rw [BitVec.toNat_ofNat, BitVec.toNat_ofNat, Nat.mod_mod])
theorem ca_lshr {n k : Nat} (hn : n < 2 ^ 64) (hk : k < 64) : ((lN n).toUInt64 >>> ((nI k).toInt64.toUInt64 &&& Int64.toUInt64 63)).toInt64 = lN (n / 2 ^ k) := by
  rw [ca_lcu k hk]
  apply ca_linj
  apply BitVec.eq_of_toNat_eq
  show ((lN n).toUInt64 >>> UInt64.ofNat k).toNat = (BitVec.ofNat 64 _).toNat
  have h1 : (UInt64.ofNat k).toNat = k := by
    show (BitVec.ofNat 64 k).toNat = k
    rw [BitVec.toNat_ofNat, Nat.mod_eq_of_lt (by omega)]
  have h2 : (lN n).toUInt64.toNat = n := ca_ltn hn
  rw [UInt64.toNat_shiftRight, h1, h2, Nat.mod_eq_of_lt hk, Nat.shiftRight_eq_div_pow, BitVec.toNat_ofNat, Nat.mod_eq_of_lt (Nat.lt_of_le_of_lt (Nat.div_le_self _ _) hn)]
theorem ca_lshl (n : Nat) {k : Nat} (hk : k < 64) : lN n <<< ((nI k).toInt64 &&& 63) = lN (n * 2 ^ k) := by
  rw [ca_lc k hk]
  apply ca_linj
  rw [Int64.toBitVec_shiftLeft, ca_ltb, ca_ltb, ca_ltb, ca_lsm k hk]
  apply BitVec.eq_of_toNat_eq
  rw [BitVec.shiftLeft_eq', BitVec.toNat_shiftLeft, BitVec.toNat_ofNat, BitVec.toNat_ofNat, BitVec.toNat_ofNat, Nat.mod_eq_of_lt (show k < 2 ^ 64 by omega), Nat.shiftLeft_eq, Nat.mul_mod, Nat.mod_mod, ← Nat.mul_mod]
/-- the expression of counted and of countUp -/
def ca_ct (m : Int64) (t : Nat) : Int32 := (((m.toUInt64 >>> ((4 * nI t).toInt64.toUInt64 &&& Int64.toUInt64 63)).toInt64).toInt32) &&& 15
def ca_up (m : Int64) (t : Nat) : Int64 := if ca_ct m t < 5 then m + ((1 : Int64) <<< ((4 * nI t).toInt64 &&& 63)) else m
def ca_cnt (m : Int64) (t : Nat) (v : Bool) : Int64 := if v then ca_up m t else m
/-- whether the counter isn't 0 -/
def ca_nz (m : Int64) (t : Nat) : Bool := decide (¬ ca_ct m t < 1)
theorem ca_4 (t : Nat) : (4 : Int32) * nI t = nI (4 * t) := pk_mul 4 t
theorem ca_ctN {n t : Nat} (hn : n < 2 ^ 64) (ht : t < 16) : ca_ct (lN n) t = nI (n / 2 ^ (4 * t) % 16) := by
  unfold ca_ct
  rw [ca_4, ca_lshr hn (by omega), lN_i, pk_and _ 4 (by decide)]
  generalize n / 2 ^ (4 * t) = z
  show nI (z % 2 ^ 32 % 2 ^ 4) = _
  congr 1
  omega
theorem ca_upN {n t : Nat} (hn : n < 2 ^ 64) (ht : t < 16) : ca_up (lN n) t = if n / 2 ^ (4 * t) % 16 < 5 then lN ((n + 2 ^ (4 * t)) % 2 ^ 64) else lN n := by
  unfold ca_up
  have e1 : (1 : Int64) = lN 1 := rfl
  have e5 : (5 : Int32) = nI 5 := rfl
  have hlt : n / 2 ^ (4 * t) % 16 < 16 := Nat.mod_lt _ (by decide)
  rw [ca_ctN hn ht, ca_4, e1, ca_lshl 1 (by omega), lN_add, Nat.one_mul, ca_lmod (n + 2 ^ (4 * t)), e5]
  have := nI_ltI (a := n / 2 ^ (4 * t) % 16) (b := 5) (by omega) (by omega)
  by_cases h : n / 2 ^ (4 * t) % 16 < 5
  · rw [if_pos (this.mpr h), if_pos h]
  · rw [if_neg (fun z => h (this.mp z)), if_neg h]
theorem ca_nzN {n t : Nat} (hn : n < 2 ^ 64) (ht : t < 16) : ca_nz (lN n) t = decide (0 < n / 2 ^ (4 * t) % 16) := by
  unfold ca_nz
  have hlt : n / 2 ^ (4 * t) % 16 < 16 := Nat.mod_lt _ (by decide)
  rw [ca_ctN hn ht]
  have e1 : (1 : Int32) = nI 1 := rfl
  have := nI_ltI (a := n / 2 ^ (4 * t) % 16) (b := 1) (by omega) (by omega)
  rw [e1]
  refine decide_eq_decide.mpr ?_
  rw [this]
  omega
theorem ca_nz0 (t : Nat) (ht : t < 16) : ca_nz 0 t = false := by
  have e : (0 : Int64) = lN 0 := rfl
  rw [e, ca_nzN (by omega) ht, Nat.zero_div]
  rfl
theorem ca_nz_up (m : Int64) {s t : Nat} (hs : s < 2) (ht : t < 3) : ca_nz (ca_up m t) s = (ca_nz m s || decide (s = t)) := by
  obtain ⟨n, hn, rfl⟩ := ca_lof m
  rw [ca_upN hn (by omega)]
  by_cases h : n / 2 ^ (4 * t) % 16 < 5
  · have hno : n + 2 ^ (4 * t) < 2 ^ 64 := by
      rcases (show t = 0 ∨ t = 1 ∨ t = 2 by omega) with rfl | rfl | rfl <;> simp only [Nat.mul_zero, Nat.mul_one, Nat.reduceMul, Nat.reducePow, Nat.div_one] at h ⊢ <;> omega
    rw [if_pos h, Nat.mod_eq_of_lt hno, ca_nzN hno (by omega), ca_nzN hn (by omega), Bool.eq_iff_iff, Bool.or_eq_true, decide_eq_true_iff, decide_eq_true_iff, decide_eq_true_iff]
    clear hno
    rcases (show s = 0 ∨ s = 1 by omega) with rfl | rfl <;> rcases (show t = 0 ∨ t = 1 ∨ t = 2 by omega) with rfl | rfl | rfl <;> simp only [Nat.mul_zero, Nat.mul_one, Nat.reduceMul, Nat.reducePow, Nat.div_one, or_true, iff_true] at h ⊢ <;> omega
  · rw [if_neg h, ca_nzN hn (by omega)]
    by_cases e : s = t
    · subst e
      rw [decide_eq_true (show 0 < n / 2 ^ (4 * s) % 16 by omega)]
      simp
    · rw [decide_eq_false e, Bool.or_false]
theorem ca_nz_cnt (m : Int64) {s t : Nat} (v : Bool) (hs : s < 2) (ht : t < 3) : ca_nz (ca_cnt m t v) s = (ca_nz m s || (v && decide (s = t))) := by
  unfold ca_cnt
  cases v
  · simp
  · rw [if_pos rfl, ca_nz_up m hs ht, Bool.true_and]
end
section
/-! ===== one token of a formula ===== -/
theorem ca_dc {c : Prop} [Decidable c] {post : Int32 → Prop} (H : post (ca_b (decide c))) : (c → post 1) ∧ (¬ c → post 0) := by
  refine br_c (fun h => ?_) (fun h => ?_)
  · rw [decide_eq_true h] at H
    exact H
  · rw [decide_eq_false h] at H
    exact H
theorem ca_dn {c : Prop} [Decidable c] {post : Int32 → Prop} (H : post (ca_b (decide (¬ c)))) : (c → post 0) ∧ (¬ c → post 1) := by
  refine br_c (fun h => ?_) (fun h => ?_)
  · rw [decide_eq_false (fun z => z h)] at H
    exact H
  · rw [decide_eq_true h] at H
    exact H
theorem ca_16 (p t : Nat) : (16 : Int32) * nI p + nI t = nI (16 * p + t) := by
  rw [← nI_add, ← pk_mul]
  rfl
theorem ca_21 (p t : Nat) : (21 : Int32) * nI p + nI t = nI (21 * p + t) := by
  rw [← nI_add, ← pk_mul]
  rfl
/-- whether a plain token holds at call i -/
def ca_pv (a2 a3 a4 a5 a15 : Nat → Int32) (k a : Int32) (i : Nat) : Bool :=
  if k = 0 then decide (a4 (a15 i).toNatClampNeg = a)
  else if k = 1 then decide (a3 (a15 i).toNatClampNeg = a)
  else if k = 2 then decide ((a2 (a3 (a15 i).toNatClampNeg).toNatClampNeg >>> (a &&& 31)) &&& 1 = 1)
  else if k = 3 then decide ((a5 (a15 i).toNatClampNeg >>> (a &&& 31)) &&& 1 = 1)
  else if k = 4 then (decide (0 < i) && decide ((a2 (a3 (a15 (i - 1)).toNatClampNeg).toNatClampNeg >>> (a &&& 31)) &&& 1 = 1))
  else decide (¬ nI i < a)
theorem ca_plain {post : Int32 → Prop} {ft fh fp fd fg : Int32} {a1 a2 a3 a4 a5 a6 a7 a8 a9 a10 a11 a12 a13 a14 a15 a16 a17 a19 : Nat → Int32} {a18 : Nat → Int64} {k a : Int32} {i : Nat} (j : Nat) (hk : k = nI j) (hj : j ≤ 5) (hi : i < 21) (hm : ∀ q, q ≤ i → vp_in (a15 q) 16) (h3 : ∀ m, vp_in (a3 m) 8)
    (H : post (ca_b (ca_pv a2 a3 a4 a5 a15 k a i))) : wpX_plainHolds post (ft, fh, fp, fd, fg, a1, a2, a3, a4, a5, a6, a7, a8, a9, a10, a11, a12, a13, a14, a15, a16, a17, a18, a19) k a (nI i) := by
  refine And.intro (pk_in i 21 hi) (nm_r (e' := a15 i) (by rw [nI_clamp (by omega)]) ?_)
  have hmi := hm i (Nat.le_refl i)
  subst hk
  unfold ca_pv at H
  rcases (show j = 0 ∨ j = 1 ∨ j = 2 ∨ j = 3 ∨ j = 4 ∨ j = 5 by omega) with rfl | rfl | rfl | rfl | rfl | rfl
  · rw [if_pos (by decide)] at H
    exact br_f (by decide) (br_f (by decide) (br_t (by decide) ⟨hmi, ca_dc H⟩))
  · rw [if_neg (by decide), if_pos (by decide)] at H
    exact br_f (by decide) (br_f (by decide) (br_f (by decide) (br_t (by decide) ⟨hmi, ca_dc H⟩)))
  · rw [if_neg (by decide), if_neg (by decide), if_pos (by decide)] at H
    exact br_f (by decide) (br_f (by decide) (br_f (by decide) (br_f (by decide) (br_t (by decide) ⟨hmi, h3 _, ca_dc H⟩))))
  · rw [if_neg (by decide), if_neg (by decide), if_neg (by decide), if_pos (by decide)] at H
    exact br_f (by decide) (br_f (by decide) (br_f (by decide) (br_f (by decide) (br_f (by decide) (br_t (by decide) ⟨hmi, ca_dc H⟩)))))
  · rw [if_neg (by decide), if_neg (by decide), if_neg (by decide), if_neg (by decide), if_pos (by decide)] at H
    refine br_f (by decide) (br_f (by decide) (br_f (by decide) (br_f (by decide) (br_f (by decide) (br_f (by decide) (br_t (by decide) ?_))))))
    cases i with
    | zero =>
      rw [decide_eq_false (by omega), Bool.false_and] at H
      exact br_t (by decide) H
    | succ i =>
      rw [decide_eq_true (by omega), Bool.true_and, Nat.add_sub_cancel] at H
      refine br_f (nI_nle (by omega) (by omega)) ?_
      rw [nI_pred, nI_clamp (show i < 2 ^ 31 by omega)]
      exact ⟨pk_in i 21 (by omega), hm i (by omega), h3 _, ca_dc H⟩
  · rw [if_neg (by decide), if_neg (by decide), if_neg (by decide), if_neg (by decide), if_neg (by decide)] at H
    exact br_f (by decide) (br_t (by decide) (ca_dn H))
/-- what joined answers, as far as the law asks -/
def ca_J (k : Nat) (l e v : Bool) : Prop := (k = 6 → v = (l || e)) ∧ (k = 7 → v = e) ∧ (k = 8 → l = true → v = true) ∧ (k = 10 → v = !l) ∧ (k = 13 → v = (l && !e))
theorem ca_joined {post : Int32 → Prop} {ft fh fp fd fg : Int32} {a1 a2 a3 a4 a5 a6 a7 a8 a9 a10 a11 a12 a13 a14 a15 a16 a17 a19 : Nat → Int32} {a18 : Nat → Int64} {now held bef : Int32} {k q t : Nat} (hq : q + 1 < 96) (ht : t + 1 < 32) (hk : a11 (q + 1) = nI k) (kk : k = 6 ∨ k = 7 ∨ k = 8 ∨ k = 10 ∨ k = 13)
    (H : ∀ v, ca_J k (ca_bt now t) (ca_bt bef t) v → post (ca_b v)) : wpX_joined post (ft, fh, fp, fd, fg, a1, a2, a3, a4, a5, a6, a7, a8, a9, a10, a11, a12, a13, a14, a15, a16, a17, a18, a19) (nI (q + 1)) (nI (t + 1)) now held bef := by
  unfold wpX_joined
  refine ca_wbit t ?_ (nI_pred t)
  refine ca_wbit t ?_ (nI_pred t)
  generalize ca_bt now t = l at *
  generalize ca_bt bef t = e at *
  refine And.intro (pk_in q 96 (by omega) (nI_pred q)) (nm_e (And.intro (pk_in (q + 1) 96 hq) (nm_r (e' := nI k) (by rw [nI_clamp (by omega)]; exact hk) ?_)))
  rcases kk with rfl | rfl | rfl | rfl | rfl
  · refine br_f (by decide) (br_f (by decide) (br_t (by decide) ?_))
    exact ca_z l (fun hl => ca_z e (fun he => H false (by subst hl he; unfold ca_J; decide)) (fun he => H true (by subst hl he; unfold ca_J; decide))) (fun hl => H true (by subst hl; unfold ca_J; cases e <;> decide))
  · refine br_f (by decide) (br_f (by decide) (br_f (by decide) (br_t (by decide) ?_)))
    exact And.intro (ca_nb e) (H e (by unfold ca_J; cases e <;> cases l <;> decide))
  · refine br_f (by decide) (br_f (by decide) (br_f (by decide) (br_f (by decide) (br_t (by decide) ?_))))
    exact ca_z l (fun hl => ca_wbitA (fun v => ca_z v (fun _ => H false (by subst hl; unfold ca_J; cases e <;> decide)) (fun _ => ca_wbitA (fun w => ca_z w (fun _ => H false (by subst hl; unfold ca_J; cases e <;> decide)) (fun _ => H true (by subst hl; unfold ca_J; cases e <;> decide)))))) (fun hl => H true (by subst hl; unfold ca_J; cases e <;> decide))
  · refine br_f (by decide) (br_f (by decide) (br_f (by decide) (br_f (by decide) (br_f (by decide) (br_f (by decide) (br_t (by decide) ?_))))))
    exact ca_z l (fun hl => H true (by subst hl; unfold ca_J; cases e <;> decide)) (fun hl => H false (by subst hl; unfold ca_J; cases e <;> decide))
  · refine br_f (by decide) (br_t (by decide) ?_)
    exact ca_z l (fun hl => H false (by subst hl; unfold ca_J; cases e <;> decide)) (fun hl => ca_z e (fun he => H true (by subst hl he; unfold ca_J; decide)) (fun he => H false (by subst hl he; unfold ca_J; decide)))
theorem ca_wup {post : Int64 → Prop} {m : Int64} (t : Nat) (H : post (ca_up m t)) : wpX_countUp post () m (nI t) := by
  unfold ca_up at H
  refine br_c (fun h => ?_) (fun h => ?_)
  · rw [if_pos (show ca_ct m t < 5 from h)] at H
    exact H
  · rw [if_neg (show ¬ ca_ct m t < 5 from h)] at H
    exact H
theorem ca_181 {post : St1 → Prop} {J : Int32 → Int64 → Int32 → Prop} {x1 x2 x4 x5 x6 now : Int32} {m : Int64} {t : Nat} {v : Bool} {ft fh fp fd fg : Int32} {a1 a2 a3 a4 a5 a6 a7 a8 a9 a10 a11 a12 a13 a14 a15 a16 a17 a19 : Nat → Int32} {a18 : Nat → Int64}
    (H : J (ca_set now t v) (ca_cnt m t v) (nI (t + 1))) : wX_workOut_181 post J x1 x2 now x4 x5 x6 m (nI t) (ca_b v) ft fh fp fd fg a1 a2 a3 a4 a5 a6 a7 a8 a9 a10 a11 a12 a13 a14 a15 a16 a17 a18 a19 :=
  ca_z v (fun h => by subst h; exact nm_r (nI_1 t) H) (fun h => by subst h; exact nm_e (ca_wup t (nm_r (nI_1 t) H)))
/-! ===== the steps of workOut's loop ===== -/
theorem ca_s_plain {post : St1 → Prop} {ft fh fp fd fg : Int32} {a1 a2 a3 a4 a5 a6 a7 a8 a9 a10 a11 a12 a13 a14 a15 a16 a17 a19 : Nat → Int32} {a18 : Nat → Int64} {held bef now : Int32} {m : Int64} {n p i z t l j : Nat} (hp : p < 6) (hl : a9 p = nI l) (ht : t < l) (l16 : l ≤ 16) (hj : j ≤ 5) (hk : a11 (16 * p + t) = nI j)
    (hi : i < 21) (hm : ∀ q, q ≤ i → vp_in (a15 q) 16) (h3 : ∀ m, vp_in (a3 m) 8) {v : Bool} (hv : ca_pv a2 a3 a4 a5 a15 (a11 (16 * p + t)) (a12 (16 * p + t)) i = v)
    (H : wX_workOut_70 post (nI p) (nI i) (nI z) held bef ft fh fp fd fg a1 a2 a3 a4 a5 a6 a7 a8 a9 a10 a11 a12 a13 a14 a15 a16 a17 a18 a19 n (ca_set now t v) (ca_cnt m t v) (nI (t + 1))) :
    wX_workOut_70 post (nI p) (nI i) (nI z) held bef ft fh fp fd fg a1 a2 a3 a4 a5 a6 a7 a8 a9 a10 a11 a12 a13 a14 a15 a16 a17 a18 a19 (n + 1) now m (nI t) := by
  refine And.intro (pk_in p 6 hp) ?_
  refine pk_le l t (fun z => absurd z (by omega)) (fun _ => ?_) (by rw [nI_clamp (by omega)]; exact hl)
  refine nm_r (ca_16 p t) ?_
  refine And.intro (pk_in (16 * p + t) 96 (by omega)) ?_
  refine pk_lt 5 j (fun z => absurd z (by omega)) (fun _ => ?_) rfl (by rw [nI_clamp (by omega)]; exact hk)
  refine And.intro (pk_in (16 * p + t) 96 (by omega)) (And.intro (pk_in (16 * p + t) 96 (by omega)) ?_)
  rw [nI_clamp (show 16 * p + t < 2 ^ 31 by omega)]
  refine ca_plain j hk hj hi hm h3 ?_
  rw [hv]
  exact ca_181 H
theorem ca_s_times {post : St1 → Prop} {ft fh fp fd fg : Int32} {a1 a2 a3 a4 a5 a6 a7 a8 a9 a10 a11 a12 a13 a14 a15 a16 a17 a19 : Nat → Int32} {a18 : Nat → Int64} {held bef now : Int32} {m : Int64} {n p i z t l : Nat} (hp : p < 6) (hl : a9 p = nI l) (ht : t + 1 < l) (l16 : l ≤ 16) (hk : a11 (16 * p + (t + 1)) = 9) (ha : a12 (16 * p + (t + 1)) = 1)
    (H : wX_workOut_70 post (nI p) (nI i) (nI z) held bef ft fh fp fd fg a1 a2 a3 a4 a5 a6 a7 a8 a9 a10 a11 a12 a13 a14 a15 a16 a17 a18 a19 n (ca_set now (t + 1) (ca_nz m t)) (ca_cnt m (t + 1) (ca_nz m t)) (nI (t + 1 + 1))) :
    wX_workOut_70 post (nI p) (nI i) (nI z) held bef ft fh fp fd fg a1 a2 a3 a4 a5 a6 a7 a8 a9 a10 a11 a12 a13 a14 a15 a16 a17 a18 a19 (n + 1) now m (nI (t + 1)) := by
  refine And.intro (pk_in p 6 hp) ?_
  refine pk_le l (t + 1) (fun z => absurd z (by omega)) (fun _ => ?_) (by rw [nI_clamp (by omega)]; exact hl)
  refine nm_r (ca_16 p (t + 1)) ?_
  refine And.intro (pk_in (16 * p + (t + 1)) 96 (by omega)) ?_
  refine pk_lt 5 9 (fun _ => ?_) (fun z => absurd z (by omega)) rfl (by rw [nI_clamp (by omega)]; exact hk)
  refine And.intro (pk_in (16 * p + (t + 1)) 96 (by omega)) ?_
  refine br_t (by rw [nI_clamp (by omega)]; exact hk) ?_
  rw [nI_pred]
  refine And.intro (pk_in (16 * p + (t + 1)) 96 (by omega)) ?_
  rw [nI_clamp (show 16 * p + (t + 1) < 2 ^ 31 by omega), ha]
  refine br_c (fun h => ?_) (fun h => ?_)
  · have e : ca_nz m t = false := decide_eq_false (fun z => z h)
    rw [e] at H
    exact ca_181 (v := false) H
  · have e : ca_nz m t = true := decide_eq_true h
    rw [e] at H
    exact ca_181 (v := true) H
theorem ca_s_join {post : St1 → Prop} {ft fh fp fd fg : Int32} {a1 a2 a3 a4 a5 a6 a7 a8 a9 a10 a11 a12 a13 a14 a15 a16 a17 a19 : Nat → Int32} {a18 : Nat → Int64} {held bef now : Int32} {m : Int64} {n p i z t l k : Nat} (hp : p < 6) (hl : a9 p = nI l) (ht : t + 1 < l) (l16 : l ≤ 16) (hk : a11 (16 * p + (t + 1)) = nI k) (kk : k = 6 ∨ k = 7 ∨ k = 8 ∨ k = 10 ∨ k = 13)
    (H : ∀ v, ca_J k (ca_bt now t) (ca_bt bef t) v → wX_workOut_70 post (nI p) (nI i) (nI z) held bef ft fh fp fd fg a1 a2 a3 a4 a5 a6 a7 a8 a9 a10 a11 a12 a13 a14 a15 a16 a17 a18 a19 n (ca_set now (t + 1) v) (ca_cnt m (t + 1) v) (nI (t + 1 + 1))) :
    wX_workOut_70 post (nI p) (nI i) (nI z) held bef ft fh fp fd fg a1 a2 a3 a4 a5 a6 a7 a8 a9 a10 a11 a12 a13 a14 a15 a16 a17 a18 a19 (n + 1) now m (nI (t + 1)) := by
  refine And.intro (pk_in p 6 hp) ?_
  refine pk_le l (t + 1) (fun z => absurd z (by omega)) (fun _ => ?_) (by rw [nI_clamp (by omega)]; exact hl)
  refine nm_r (ca_16 p (t + 1)) ?_
  refine And.intro (pk_in (16 * p + (t + 1)) 96 (by omega)) ?_
  refine pk_lt 5 k (fun _ => ?_) (fun z => absurd z (by omega)) rfl (by rw [nI_clamp (by omega)]; exact hk)
  refine And.intro (pk_in (16 * p + (t + 1)) 96 (by omega)) ?_
  refine pk_eq k 9 (fun z => absurd z (by omega)) (fun _ => ?_) (by rw [nI_clamp (by omega)]; exact hk) rfl
  exact ca_joined (q := 16 * p + t) (by omega) (by omega) hk kk (fun v hv => ca_181 (H v hv))
theorem ca_s_end {post : St1 → Prop} {ft fh fp fd fg : Int32} {a1 a2 a3 a4 a5 a6 a7 a8 a9 a10 a11 a12 a13 a14 a15 a16 a17 a19 : Nat → Int32} {a18 : Nat → Int64} {held bef now : Int32} {m : Int64} {n p i z l : Nat} (hp : p < 6) (hl : a9 p = nI l) (l16 : l ≤ 16) (hz : z < 126)
    (H : post (ft, fh, fp, fd, fg, a1, a2, a3, a4, a5, a6, a7, a8, a9, a10, a11, a12, a13, a14, a15, (upd a16 z now), (upd a17 z (bef ||| now)), (vp_updL a18 z m), a19)) :
    wX_workOut_70 post (nI p) (nI i) (nI z) held bef ft fh fp fd fg a1 a2 a3 a4 a5 a6 a7 a8 a9 a10 a11 a12 a13 a14 a15 a16 a17 a18 a19 (n + 1) now m (nI l) := by
  refine And.intro (pk_in p 6 hp) ?_
  refine pk_le l l (fun _ => ?_) (fun z => absurd z (by omega)) (by rw [nI_clamp (by omega)]; exact hl)
  rw [nI_clamp (show z < 2 ^ 31 by omega)]
  exact And.intro (pk_in z 126 hz) (nm_e (And.intro (pk_in z 126 hz) (nm_e (And.intro (pk_in z 126 hz) (nm_e H)))))
/-- whether F holds at call i -/
def ca_F (a2 a3 a4 a5 : Nat → Int32) (lf : Nat) (kf af : Int32) (a15 : Nat → Int32) (i : Nat) : Bool := (ca_pv a2 a3 a4 a5 a15 kf af i ^^ decide (lf = 2))
/-- the tokens of a part [simple, perhaps not] from place b on -/
theorem ca_part {post : St1 → Prop} {ft fh fp fd fg : Int32} {a1 a2 a3 a4 a5 a6 a7 a8 a9 a10 a11 a12 a13 a14 a15 a16 a17 a19 : Nat → Int32} {a18 : Nat → Int64} {held bef now : Int32} {m : Int64} {n p i z l b j lf : Nat} {kf af : Int32} (hp : p < 6) (hl : a9 p = nI l) (hlf : lf = 1 ∨ lf = 2) (hb : b + lf ≤ l) (l16 : l ≤ 16) (hj : j ≤ 5) (kj : kf = nI j)
    (hk : a11 (16 * p + b) = kf) (ha : a12 (16 * p + b) = af) (hn : lf = 2 → a11 (16 * p + (b + 1)) = 10)
    (hi : i < 21) (hm : ∀ q, q ≤ i → vp_in (a15 q) 16) (h3 : ∀ m, vp_in (a3 m) 8) (hz : ∀ s, b ≤ s → s < 32 → ca_bt now s = false)
    (H : ∀ (now' : Int32) (m' : Int64), (∀ s, b + lf ≤ s → s < 32 → ca_bt now' s = false) → ca_bt now' (b + lf - 1) = ca_F a2 a3 a4 a5 lf kf af a15 i →
      (b = 0 → ca_nz m' (lf - 1) = (ca_nz m (lf - 1) || ca_F a2 a3 a4 a5 lf kf af a15 i)) → wX_workOut_70 post (nI p) (nI i) (nI z) held bef ft fh fp fd fg a1 a2 a3 a4 a5 a6 a7 a8 a9 a10 a11 a12 a13 a14 a15 a16 a17 a18 a19 n now' m' (nI (b + lf))) :
    wX_workOut_70 post (nI p) (nI i) (nI z) held bef ft fh fp fd fg a1 a2 a3 a4 a5 a6 a7 a8 a9 a10 a11 a12 a13 a14 a15 a16 a17 a18 a19 (n + lf) now m (nI b) := by
  have hv : ca_pv a2 a3 a4 a5 a15 (a11 (16 * p + b)) (a12 (16 * p + b)) i = ca_pv a2 a3 a4 a5 a15 kf af i := by rw [hk, ha]
  unfold ca_F at H
  rcases hlf with rfl | rfl
  · refine ca_s_plain hp hl (by omega) l16 hj (by rw [hk, kj]) hi hm h3 hv ?_
    generalize ca_pv a2 a3 a4 a5 a15 kf af i = v at *
    refine H _ _ (fun s h1 h2 => ?_) ?_ (fun e => ?_)
    · rw [ca_set_n _ _ (by omega) h2 (by omega)]
      exact hz s (by omega) h2
    · rw [Nat.add_sub_cancel, ca_set_s _ _ (by omega) (hz b (by omega) (by omega))]
      simp
    · subst e
      rw [ca_nz_cnt m v (by omega) (by omega)]
      simp
  · refine ca_s_plain hp hl (by omega) l16 hj (by rw [hk, kj]) hi hm h3 hv ?_
    generalize ca_pv a2 a3 a4 a5 a15 kf af i = v at *
    refine ca_s_join hp hl (by omega) l16 (hn rfl) (k := 10) (by omega) (fun w hw => ?_)
    have hw' : w = !v := by
      have := hw.2.2.2.1 rfl
      rw [ca_set_s _ _ (by omega) (hz b (by omega) (by omega))] at this
      exact this
    subst hw'
    refine H _ _ (fun s h1 h2 => ?_) ?_ (fun e => ?_)
    · rw [ca_set_n _ _ (by omega) h2 (by omega), ca_set_n _ _ (by omega) h2 (by omega)]
      exact hz s (by omega) h2
    · rw [show b + 2 - 1 = b + 1 by omega, ca_set_s _ _ (by omega) (by rw [ca_set_n _ _ (by omega) (by omega) (by omega)]; exact hz (b + 1) (by omega) (by omega))]
      simp
    · subst e
      rw [ca_nz_cnt _ _ (by omega) (by omega), ca_nz_cnt m v (by omega) (by omega)]
      simp
end
section
/-! ===== a piece and its cells ===== -/
/-- the place of the whole formula's token -/
def ca_ix (lf lg p : Nat) : Nat := if p = 0 then lf - 1 else if p = 5 then lg + lf else lf
def ca_op (p : Nat) : Nat := if p = 1 then 6 else if p = 2 then 7 else if p = 3 then 9 else if p = 4 then 13 else 8
/-- the piece p stands in lengths, kinds, args -/
def ca_pc (lf lg : Nat) (kf af kg : Int32) (a9 a11 a12 : Nat → Int32) (p : Nat) : Prop :=
  a9 p = nI (ca_ix lf lg p + 1) ∧
  (p < 5 → a11 (16 * p + 0) = kf ∧ a12 (16 * p + 0) = af ∧ (lf = 2 → a11 (16 * p + (0 + 1)) = 10)) ∧
  (p = 5 → a11 (16 * p + 0) = kg ∧ (lg = 2 → a11 (16 * p + (0 + 1)) = 10) ∧ a11 (16 * p + lg) = kf ∧ a12 (16 * p + lg) = af ∧ (lf = 2 → a11 (16 * p + (lg + 1)) = 10)) ∧
  (0 < p → a11 (16 * p + ca_ix lf lg p) = nI (ca_op p) ∧ a12 (16 * p + ca_ix lf lg p) = 1)
def ca_cfg (lf lg : Nat) (kf af kg : Int32) (a3 a9 a11 a12 : Nat → Int32) : Prop :=
  (lf = 1 ∨ lf = 2) ∧ (lg = 1 ∨ lg = 2) ∧ (∃ j, j ≤ 5 ∧ kf = nI j) ∧ (∃ j, j ≤ 5 ∧ kg = nI j) ∧ (∀ m, vp_in (a3 m) 8) ∧ ∀ p, p < 6 → ca_pc lf lg kf af kg a9 a11 a12 p
/-- what the whole formula of piece p < 5 says, F now, E before -/
def ca_val (F E : Bool) (p : Nat) : Bool := if p = 0 then F else if p = 2 then E else if p = 4 then (F && !E) else (F || E)
/-- a cell: holding h, ever e, often m of the piece p at a call -/
def ca_cell (lf lg p : Nat) (F E : Bool) (h e : Int32) (m : Int64) : Prop :=
  (p < 5 → ca_bt h (ca_ix lf lg p) = ca_val F E p) ∧ (p = 5 → F = true → ca_bt h (ca_ix lf lg p) = true) ∧
  (p = 3 → ca_nz m (lf - 1) = (F || E)) ∧ (p = 1 ∨ p = 2 ∨ p = 4 → ca_bt e (lf - 1) = (F || E))
theorem ca_mid0 {post : St1 → Prop} {ft fh fp fd fg : Int32} {a1 a2 a3 a4 a5 a6 a7 a8 a9 a10 a11 a12 a13 a14 a15 a16 a17 a19 : Nat → Int32} {a18 : Nat → Int64} {held bef : Int32} {m : Int64} {i lf lg : Nat} {kf af kg : Int32} {E : Bool} (C : ca_cfg lf lg kf af kg a3 a9 a11 a12)
    (hi : i < 21) (hm : ∀ q, q ≤ i → vp_in (a15 q) 16)
    (H : ∀ h e m', ca_cell lf lg 0 (ca_F a2 a3 a4 a5 lf kf af a15 i) E h e m' → post (ft, fh, fp, fd, fg, a1, a2, a3, a4, a5, a6, a7, a8, a9, a10, a11, a12, a13, a14, a15, (upd a16 (21 * 0 + i) h), (upd a17 (21 * 0 + i) e), (vp_updL a18 (21 * 0 + i) m'), a19)) :
    ∃ n, wX_workOut_70 post (nI 0) (nI i) (nI (21 * 0 + i)) held bef ft fh fp fd fg a1 a2 a3 a4 a5 a6 a7 a8 a9 a10 a11 a12 a13 a14 a15 a16 a17 a18 a19 n 0 m 0 := by
  obtain ⟨hlf, hlg, ⟨j, hj, kj⟩, _, h3, hP⟩ := C
  obtain ⟨q1, q2, q3, q4⟩ := hP 0 (by omega)
  obtain ⟨r1, r2, r3⟩ := q2 (by omega)
  have ix : ca_ix lf lg 0 = lf - 1 := rfl
  have q1' : a9 0 = nI lf := by rw [q1, ix]; congr 1; omega
  refine ⟨1 + lf, ca_part (b := 0) (by omega) q1' hlf (by omega) (by omega) hj kj r1 r2 r3 hi hm h3 (fun s _ _ => ca_b0 s) (fun now' m' hz hF hnz => ?_)⟩
  rw [Nat.zero_add lf] at hF ⊢
  refine ca_s_end (by omega) q1' (by omega) (by omega) (H _ _ _ ⟨fun _ => ?_, fun z => absurd z (by omega), fun z => absurd z (by omega), fun z => absurd z (by omega)⟩)
  rw [ix, hF]
  rfl
/-- pieces 1, 2, 4 -/
theorem ca_midJ {post : St1 → Prop} {ft fh fp fd fg : Int32} {a1 a2 a3 a4 a5 a6 a7 a8 a9 a10 a11 a12 a13 a14 a15 a16 a17 a19 : Nat → Int32} {a18 : Nat → Int64} {held bef : Int32} {m : Int64} {p i lf lg : Nat} {kf af kg : Int32} {E : Bool} (C : ca_cfg lf lg kf af kg a3 a9 a11 a12) (hp : p = 1 ∨ p = 2 ∨ p = 4)
    (hi : i < 21) (hm : ∀ q, q ≤ i → vp_in (a15 q) 16) (hb : ca_bt bef (lf - 1) = E)
    (H : ∀ h e m', ca_cell lf lg p (ca_F a2 a3 a4 a5 lf kf af a15 i) E h e m' → post (ft, fh, fp, fd, fg, a1, a2, a3, a4, a5, a6, a7, a8, a9, a10, a11, a12, a13, a14, a15, (upd a16 (21 * p + i) h), (upd a17 (21 * p + i) e), (vp_updL a18 (21 * p + i) m'), a19)) :
    ∃ n, wX_workOut_70 post (nI p) (nI i) (nI (21 * p + i)) held bef ft fh fp fd fg a1 a2 a3 a4 a5 a6 a7 a8 a9 a10 a11 a12 a13 a14 a15 a16 a17 a18 a19 n 0 m 0 := by
  obtain ⟨hlf, hlg, ⟨j, hj, kj⟩, _, h3, hP⟩ := C
  obtain ⟨q1, q2, q3, q4⟩ := hP p (by omega)
  obtain ⟨r1, r2, r3⟩ := q2 (by omega)
  obtain ⟨s1, s2⟩ := q4 (by omega)
  have ix : ca_ix lf lg p = lf := by unfold ca_ix; rw [if_neg (by omega), if_neg (by omega)]
  rw [ix] at q1 s1 s2
  refine ⟨1 + 1 + lf, ca_part (b := 0) (by omega) q1 hlf (by omega) (by omega) hj kj r1 r2 r3 hi hm h3 (fun s _ _ => ca_b0 s) (fun now' m' hz hF hnz => ?_)⟩
  rw [Nat.zero_add lf] at hF hz ⊢
  obtain ⟨t, rfl⟩ : ∃ t, lf = t + 1 := ⟨lf - 1, by omega⟩
  rw [Nat.add_sub_cancel] at hF hb
  generalize ca_F a2 a3 a4 a5 (t + 1) kf af a15 i = F at *
  refine ca_s_join (by omega) q1 (by omega) (by omega) s1 (by unfold ca_op; rcases hp with rfl | rfl | rfl <;> decide) (fun v hv => ?_)
  rw [hF, hb] at hv
  refine ca_s_end (by omega) q1 (by omega) (by omega) (H _ _ _ ⟨fun _ => ?_, fun z => absurd z (by omega), fun z => absurd z (by omega), fun _ => ?_⟩)
  · rw [ix, ca_set_s _ _ (by omega) (hz _ (by omega) (by omega))]
    rcases hp with rfl | rfl | rfl
    · exact hv.1 rfl
    · exact hv.2.1 rfl
    · exact hv.2.2.2.2 rfl
  · rw [Nat.add_sub_cancel, ca_or, ca_set_n _ _ (by omega) (by omega) (by omega), hF, hb, Bool.or_comm]
theorem ca_mid3 {post : St1 → Prop} {ft fh fp fd fg : Int32} {a1 a2 a3 a4 a5 a6 a7 a8 a9 a10 a11 a12 a13 a14 a15 a16 a17 a19 : Nat → Int32} {a18 : Nat → Int64} {held bef : Int32} {m : Int64} {i lf lg : Nat} {kf af kg : Int32} {E : Bool} (C : ca_cfg lf lg kf af kg a3 a9 a11 a12)
    (hi : i < 21) (hm : ∀ q, q ≤ i → vp_in (a15 q) 16) (hb : ca_nz m (lf - 1) = E)
    (H : ∀ h e m', ca_cell lf lg 3 (ca_F a2 a3 a4 a5 lf kf af a15 i) E h e m' → post (ft, fh, fp, fd, fg, a1, a2, a3, a4, a5, a6, a7, a8, a9, a10, a11, a12, a13, a14, a15, (upd a16 (21 * 3 + i) h), (upd a17 (21 * 3 + i) e), (vp_updL a18 (21 * 3 + i) m'), a19)) :
    ∃ n, wX_workOut_70 post (nI 3) (nI i) (nI (21 * 3 + i)) held bef ft fh fp fd fg a1 a2 a3 a4 a5 a6 a7 a8 a9 a10 a11 a12 a13 a14 a15 a16 a17 a18 a19 n 0 m 0 := by
  obtain ⟨hlf, hlg, ⟨j, hj, kj⟩, _, h3, hP⟩ := C
  obtain ⟨q1, q2, q3, q4⟩ := hP 3 (by omega)
  obtain ⟨r1, r2, r3⟩ := q2 (by omega)
  obtain ⟨s1, s2⟩ := q4 (by omega)
  have ix : ca_ix lf lg 3 = lf := rfl
  rw [ix] at q1 s1 s2
  refine ⟨1 + 1 + lf, ca_part (b := 0) (by omega) q1 hlf (by omega) (by omega) hj kj r1 r2 r3 hi hm h3 (fun s _ _ => ca_b0 s) (fun now' m' hz hF hnz => ?_)⟩
  have hnz := hnz rfl
  rw [Nat.zero_add lf] at hF hz ⊢
  obtain ⟨t, rfl⟩ : ∃ t, lf = t + 1 := ⟨lf - 1, by omega⟩
  rw [Nat.add_sub_cancel] at hF hb hnz
  generalize ca_F a2 a3 a4 a5 (t + 1) kf af a15 i = F at *
  refine ca_s_times (by omega) q1 (by omega) (by omega) s1 s2 ?_
  refine ca_s_end (by omega) q1 (by omega) (by omega) (H _ _ _ ⟨fun _ => ?_, fun z => absurd z (by omega), fun _ => ?_, fun z => absurd z (by omega)⟩)
  · rw [ix, ca_set_s _ _ (by omega) (hz _ (by omega) (by omega)), hnz, hb, Bool.or_comm]
    rfl
  · rw [Nat.add_sub_cancel, ca_nz_cnt _ _ (by omega) (by omega), decide_eq_false (by omega), Bool.and_false, Bool.or_false, hnz, hb, Bool.or_comm]
theorem ca_mid5 {post : St1 → Prop} {ft fh fp fd fg : Int32} {a1 a2 a3 a4 a5 a6 a7 a8 a9 a10 a11 a12 a13 a14 a15 a16 a17 a19 : Nat → Int32} {a18 : Nat → Int64} {held bef : Int32} {m : Int64} {i lf lg : Nat} {kf af kg : Int32} {E : Bool} (C : ca_cfg lf lg kf af kg a3 a9 a11 a12)
    (hi : i < 21) (hm : ∀ q, q ≤ i → vp_in (a15 q) 16)
    (H : ∀ h e m', ca_cell lf lg 5 (ca_F a2 a3 a4 a5 lf kf af a15 i) E h e m' → post (ft, fh, fp, fd, fg, a1, a2, a3, a4, a5, a6, a7, a8, a9, a10, a11, a12, a13, a14, a15, (upd a16 (21 * 5 + i) h), (upd a17 (21 * 5 + i) e), (vp_updL a18 (21 * 5 + i) m'), a19)) :
    ∃ n, wX_workOut_70 post (nI 5) (nI i) (nI (21 * 5 + i)) held bef ft fh fp fd fg a1 a2 a3 a4 a5 a6 a7 a8 a9 a10 a11 a12 a13 a14 a15 a16 a17 a18 a19 n 0 m 0 := by
  obtain ⟨hlf, hlg, ⟨j, hj, kj⟩, ⟨j', hj', kj'⟩, h3, hP⟩ := C
  obtain ⟨q1, q2, q3, q4⟩ := hP 5 (by omega)
  obtain ⟨r1, r2, r3, r4, r5⟩ := q3 rfl
  obtain ⟨s1, s2⟩ := q4 (by omega)
  have ix : ca_ix lf lg 5 = lg + lf := rfl
  rw [ix] at q1 s1 s2
  refine ⟨1 + 1 + lf + lg, ca_part (b := 0) (by omega) q1 hlg (by omega) (by omega) hj' kj' r1 rfl r2 hi hm h3 (fun s _ _ => ca_b0 s) (fun now' m' hz _ _ => ?_)⟩
  rw [Nat.zero_add lg] at hz ⊢
  refine ca_part (by omega) q1 hlf (by omega) (by omega) hj kj r3 r4 r5 hi hm h3 hz (fun now2 m2 hz2 hF _ => ?_)
  obtain ⟨t, ht⟩ : ∃ t, lg + lf = t + 1 := ⟨lg + lf - 1, by omega⟩
  rw [ht] at hF hz2 q1 s1 s2 ⊢
  rw [Nat.add_sub_cancel] at hF
  generalize ca_F a2 a3 a4 a5 lf kf af a15 i = F at *
  refine ca_s_join (by omega) q1 (by omega) (by omega) s1 (by unfold ca_op; decide) (fun v hv => ?_)
  rw [hF] at hv
  refine ca_s_end (by omega) q1 (by omega) (by omega) (H _ _ _ ⟨fun z => absurd z (by omega), fun _ z => ?_, fun z => absurd z (by omega), fun z => absurd z (by omega)⟩)
  rw [ix, ht, ca_set_s _ _ (by omega) (hz2 _ (by omega) (by omega))]
  exact hv.2.2.1 rfl z
theorem ca_mid {post : St1 → Prop} {ft fh fp fd fg : Int32} {a1 a2 a3 a4 a5 a6 a7 a8 a9 a10 a11 a12 a13 a14 a15 a16 a17 a19 : Nat → Int32} {a18 : Nat → Int64} {held bef : Int32} {m : Int64} {p i lf lg : Nat} {kf af kg : Int32} {E : Bool} (C : ca_cfg lf lg kf af kg a3 a9 a11 a12) (hp : p < 6)
    (hi : i < 21) (hm : ∀ q, q ≤ i → vp_in (a15 q) 16) (hb : p = 1 ∨ p = 2 ∨ p = 4 → ca_bt bef (lf - 1) = E) (hn : p = 3 → ca_nz m (lf - 1) = E)
    (H : ∀ h e m', ca_cell lf lg p (ca_F a2 a3 a4 a5 lf kf af a15 i) E h e m' → post (ft, fh, fp, fd, fg, a1, a2, a3, a4, a5, a6, a7, a8, a9, a10, a11, a12, a13, a14, a15, (upd a16 (21 * p + i) h), (upd a17 (21 * p + i) e), (vp_updL a18 (21 * p + i) m'), a19)) :
    ∃ n, wX_workOut_70 post (nI p) (nI i) (nI (21 * p + i)) held bef ft fh fp fd fg a1 a2 a3 a4 a5 a6 a7 a8 a9 a10 a11 a12 a13 a14 a15 a16 a17 a18 a19 n 0 m 0 := by
  rcases (show p = 0 ∨ (p = 1 ∨ p = 2 ∨ p = 4) ∨ p = 3 ∨ p = 5 by omega) with rfl | h | rfl | rfl
  · exact ca_mid0 C hi hm H
  · exact ca_midJ C h hi hm (hb h) H
  · exact ca_mid3 C hi hm (hn rfl) H
  · exact ca_mid5 C hi hm H
/-- whether F held before call i -/
def ca_ev (F : Nat → Bool) : Nat → Bool
  | 0 => false
  | i + 1 => (F i || ca_ev F i)
/-- the method workOut -/
theorem ca_wo {post : St1 → Prop} {ft fh fp fd fg : Int32} {a1 a2 a3 a4 a5 a6 a7 a8 a9 a10 a11 a12 a13 a14 a15 a16 a17 a19 : Nat → Int32} {a18 : Nat → Int64} {p i lf lg : Nat} {kf af kg : Int32} (C : ca_cfg lf lg kf af kg a3 a9 a11 a12) (hp : p < 6)
    (hi : i < 21) (hm : ∀ q, q ≤ i → vp_in (a15 q) 16)
    (hc : ∀ i', i = i' + 1 → ca_cell lf lg p (ca_F a2 a3 a4 a5 lf kf af a15 i') (ca_ev (ca_F a2 a3 a4 a5 lf kf af a15) i') (a16 (21 * p + i')) (a17 (21 * p + i')) (a18 (21 * p + i')))
    (H : ∀ h e m', ca_cell lf lg p (ca_F a2 a3 a4 a5 lf kf af a15 i) (ca_ev (ca_F a2 a3 a4 a5 lf kf af a15) i) h e m' → post (ft, fh, fp, fd, fg, a1, a2, a3, a4, a5, a6, a7, a8, a9, a10, a11, a12, a13, a14, a15, (upd a16 (21 * p + i) h), (upd a17 (21 * p + i) e), (vp_updL a18 (21 * p + i) m'), a19)) :
    wpX_workOut post (ft, fh, fp, fd, fg, a1, a2, a3, a4, a5, a6, a7, a8, a9, a10, a11, a12, a13, a14, a15, a16, a17, a18, a19) (nI p) (nI i) := by
  refine nm_r (ca_21 p i) ?_
  have hlf : lf = 1 ∨ lf = 2 := C.1
  cases i with
  | zero =>
    refine br_t (by decide) (br_t (by decide) (br_t (by decide) ?_))
    exact ca_mid C hp hi hm (fun _ => ca_b0 _) (fun _ => ca_nz0 _ (by omega)) H
  | succ i =>
    have hc := hc i rfl
    have hn : ¬ nI (i + 1) ≤ 0 := nI_nle (by omega) (by omega)
    have e1 : nI (21 * p + (i + 1)) - 1 = nI (21 * p + i) := nI_pred (21 * p + i)
    have hv : vp_in (nI (21 * p + (i + 1)) - 1) 126 := pk_in (21 * p + i) 126 (by omega) e1
    refine br_f hn (And.intro hv (br_f hn (And.intro hv (br_f hn (And.intro hv (nm_e ?_))))))
    rw [e1, nI_clamp (show 21 * p + i < 2 ^ 31 by omega)]
    exact ca_mid C hp hi hm hc.2.2.2 hc.2.2.1 H
end
section
/-! ===== the stack: what is kept below depth ===== -/
theorem ca_F_eq {a2 a3 a4 a5 a15 b15 : Nat → Int32} {lf i : Nat} {kf af : Int32} (h : ∀ q, q ≤ i → b15 q = a15 q) : ca_F a2 a3 a4 a5 lf kf af b15 i = ca_F a2 a3 a4 a5 lf kf af a15 i := by
  unfold ca_F ca_pv
  rw [h i (Nat.le_refl i), h (i - 1) (by omega)]
theorem ca_ev_c {F G : Nat → Bool} (i : Nat) (h : ∀ q, q < i → F q = G q) : ca_ev F i = ca_ev G i := by
  induction i with
  | zero => rfl
  | succ i ih =>
    show (F i || ca_ev F i) = (G i || ca_ev G i)
    rw [ih (fun q hq => h q (by omega)), h i (by omega)]
theorem ca_ev_eq {a2 a3 a4 a5 a15 b15 : Nat → Int32} {lf : Nat} {kf af : Int32} (i : Nat) (h : ∀ q, q < i → b15 q = a15 q) : ca_ev (ca_F a2 a3 a4 a5 lf kf af b15) i = ca_ev (ca_F a2 a3 a4 a5 lf kf af a15) i :=
  ca_ev_c i (fun q hq => ca_F_eq (fun k hk => h k (by omega)))
/-- the cells and methods below depth d -/
def ca_ok (lf lg : Nat) (kf af : Int32) (a2 a3 a4 a5 : Nat → Int32) (d : Nat) (a15 a16 a17 : Nat → Int32) (a18 : Nat → Int64) : Prop :=
  (∀ i, i < d → vp_in (a15 i) 16) ∧
  ∀ i p, i < d → p < 6 → ca_cell lf lg p (ca_F a2 a3 a4 a5 lf kf af a15 i) (ca_ev (ca_F a2 a3 a4 a5 lf kf af a15) i) (a16 (21 * p + i)) (a17 (21 * p + i)) (a18 (21 * p + i))
/-- nothing is changed below depth d -/
def ca_fr (d : Nat) (a15 a16 a17 : Nat → Int32) (a18 : Nat → Int64) (b15 b16 b17 : Nat → Int32) (b18 : Nat → Int64) : Prop :=
  (∀ i, i < d → b15 i = a15 i) ∧ ∀ i p, i < d → p < 6 → b16 (21 * p + i) = a16 (21 * p + i) ∧ b17 (21 * p + i) = a17 (21 * p + i) ∧ b18 (21 * p + i) = a18 (21 * p + i)
theorem ca_fr_r {d : Nat} {a15 a16 a17 : Nat → Int32} {a18 : Nat → Int64} : ca_fr d a15 a16 a17 a18 a15 a16 a17 a18 := ⟨fun _ _ => rfl, fun _ _ _ _ => ⟨rfl, rfl, rfl⟩⟩
theorem ca_fr_t {d : Nat} {a15 a16 a17 b15 b16 b17 c15 c16 c17 : Nat → Int32} {a18 b18 c18 : Nat → Int64} (h : ca_fr d a15 a16 a17 a18 b15 b16 b17 b18) (g : ca_fr d b15 b16 b17 b18 c15 c16 c17 c18) : ca_fr d a15 a16 a17 a18 c15 c16 c17 c18 :=
  ⟨fun i hi => (g.1 i hi).trans (h.1 i hi), fun i p hi hp => ⟨(g.2 i p hi hp).1.trans (h.2 i p hi hp).1, (g.2 i p hi hp).2.1.trans (h.2 i p hi hp).2.1, (g.2 i p hi hp).2.2.trans (h.2 i p hi hp).2.2⟩⟩
theorem ca_fr_m {d : Nat} {a15 a16 a17 : Nat → Int32} {a18 : Nat → Int64} (x : Int32) : ca_fr d a15 a16 a17 a18 (upd a15 d x) a16 a17 a18 :=
  ⟨fun i hi => pk_un (by omega), fun _ _ _ _ => ⟨rfl, rfl, rfl⟩⟩
theorem ca_fr_c {d q : Nat} {a15 a16 a17 : Nat → Int32} {a18 : Nat → Int64} (hd : d < 21) (x y : Int32) (z : Int64) : ca_fr d a15 a16 a17 a18 a15 (upd a16 (21 * q + d) x) (upd a17 (21 * q + d) y) (vp_updL a18 (21 * q + d) z) :=
  ⟨fun _ _ => rfl, fun i p hi hp => ⟨pk_un (by omega), pk_un (by omega), pk_uLn (by omega)⟩⟩
theorem ca_ok_fr {lf lg : Nat} {kf af : Int32} {a2 a3 a4 a5 : Nat → Int32} {d : Nat} {a15 a16 a17 b15 b16 b17 : Nat → Int32} {a18 b18 : Nat → Int64} (h : ca_ok lf lg kf af a2 a3 a4 a5 d a15 a16 a17 a18) (g : ca_fr d a15 a16 a17 a18 b15 b16 b17 b18) :
    ca_ok lf lg kf af a2 a3 a4 a5 d b15 b16 b17 b18 := by
  refine ⟨fun i hi => ?_, fun i p hi hp => ?_⟩
  · rw [g.1 i hi]
    exact h.1 i hi
  · obtain ⟨e1, e2, e3⟩ := g.2 i p hi hp
    rw [e1, e2, e3, ca_F_eq (fun q hq => g.1 q (by omega)), ca_ev_eq i (fun q hq => g.1 q (by omega))]
    exact h.2 i p hi hp
theorem ca_ok_dn {lf lg : Nat} {kf af : Int32} {a2 a3 a4 a5 : Nat → Int32} {d d' : Nat} {a15 a16 a17 : Nat → Int32} {a18 : Nat → Int64} (h : ca_ok lf lg kf af a2 a3 a4 a5 d a15 a16 a17 a18) (hd : d' ≤ d) :
    ca_ok lf lg kf af a2 a3 a4 a5 d' a15 a16 a17 a18 := ⟨fun i hi => h.1 i (by omega), fun i p hi hp => h.2 i p (by omega) hp⟩
/-! ===== questions ===== -/
theorem ca_whole {post : Int32 → Prop} {ft fh fp fd fg : Int32} {a1 a2 a3 a4 a5 a6 a7 a8 a9 a10 a11 a12 a13 a14 a15 a16 a17 a19 : Nat → Int32} {a18 : Nat → Int64} {p i x : Nat} (hl : a9 p = nI (x + 1)) (hx : x < 32) (hp : p < 6) (hi : i < 21) {v : Bool} (hv : ca_bt (a16 (21 * p + i)) x = v) (H : post (ca_b v)) : wpX_wholeHolds post (ft, fh, fp, fd, fg, a1, a2, a3, a4, a5, a6, a7, a8, a9, a10, a11, a12, a13, a14, a15, a16, a17, a18, a19) (nI p) (nI i) := by
  refine And.intro (pk_in (21 * p + i) 126 (by omega) (ca_21 p i)) (And.intro (pk_in p 6 hp) ?_)
  rw [ca_21, nI_clamp (show 21 * p + i < 2 ^ 31 by omega), nI_clamp (show p < 2 ^ 31 by omega)]
  refine ca_wbit x ?_ (by rw [hl]; exact nI_pred x)
  rw [hv]
  exact And.intro (ca_nb v) H
theorem ca_isP {post : Int32 → Prop} {ft fh fd fg : Int32} {a1 a2 a3 a4 a5 a6 a7 a8 a9 a10 a11 a12 a13 a14 a15 a16 a17 a19 : Nat → Int32} {a18 : Nat → Int64} {p : Nat} (hp : p < 6) (H : post 1) : wpX_isPiece post (ft, fh, 6, fd, fg, a1, a2, a3, a4, a5, a6, a7, a8, a9, a10, a11, a12, a13, a14, a15, a16, a17, a18, a19) (nI p) :=
  br_f (nI_pos (by omega)) (pk_le 6 p (fun z => absurd z (by omega)) (fun _ => H))
theorem ca_isM {post : Int32 → Prop} {m : Nat} (hm : m < 16) (H : post 1) : wpX_isMethod post () (nI m) :=
  br_f (nI_pos (by omega)) (pk_le 16 m (fun z => absurd z (by omega)) (fun _ => H))
/-- what holds answers -/
def ca_hv (lf lg d : Nat) (a16 : Nat → Int32) (p i : Nat) : Int32 := if p < 6 ∧ i < d then ca_b (ca_bt (a16 (21 * p + i)) (ca_ix lf lg p)) else -2
theorem ca_hv_eq {lf lg d : Nat} {a15 a16 a17 b15 b16 b17 : Nat → Int32} {a18 b18 : Nat → Int64} (g : ca_fr d a15 a16 a17 a18 b15 b16 b17 b18) : ca_hv lf lg d b16 = ca_hv lf lg d a16 := by
  funext p i
  unfold ca_hv
  by_cases h : p < 6 ∧ i < d
  · rw [if_pos h, if_pos h, (g.2 i p h.2 h.1).1]
  · rw [if_neg h, if_neg h]
theorem ca_ix_lt {lf lg p : Nat} (hlf : lf = 1 ∨ lf = 2) (hlg : lg = 1 ∨ lg = 2) : ca_ix lf lg p < 5 := by
  unfold ca_ix
  by_cases h0 : p = 0
  · rw [if_pos h0]
    omega
  · rw [if_neg h0]
    by_cases h5 : p = 5
    · rw [if_pos h5]
      omega
    · rw [if_neg h5]
      omega
theorem ca_holds {post : Int32 → Prop} {ft fh fg : Int32} {a1 a2 a3 a4 a5 a6 a7 a8 a9 a10 a11 a12 a13 a14 a15 a16 a17 a19 : Nat → Int32} {a18 : Nat → Int64} {lf lg d p i : Nat} {kf af kg : Int32} (C : ca_cfg lf lg kf af kg a3 a9 a11 a12) (hp : p < 6) (hd : d ≤ 20) (hi : i < 21) (H : post (ca_hv lf lg d a16 p i)) :
    wpX_holds post (ft, fh, 6, (nI d), fg, a1, a2, a3, a4, a5, a6, a7, a8, a9, a10, a11, a12, a13, a14, a15, a16, a17, a18, a19) (nI p) (nI i) := by
  unfold wpX_holds
  refine ca_isP hp ?_
  refine br_f (by decide) ?_
  refine br_f (nI_pos (show i < 2 ^ 31 by omega)) ?_
  have hx := ca_ix_lt (p := p) C.1 C.2.1
  unfold ca_hv at H
  refine pk_lt i d (fun h => ?_) (fun h => ?_)
  · rw [if_pos ⟨hp, h⟩] at H
    refine ca_whole (C.2.2.2.2.2 p hp).1 (by omega) hp hi rfl ?_
    generalize ca_bt (a16 (21 * p + i)) (ca_ix lf lg p) = v at *
    exact ca_z v (fun e => by subst e; exact H) (fun e => by subst e; exact H)
  · rw [if_neg (by omega)] at H
    exact H
theorem ca_holdsV {post : Int32 → Prop} {ft fh fg : Int32} {a1 a2 a3 a4 a5 a6 a7 a8 a9 a10 a11 a12 a13 a14 a15 a16 a17 a19 : Nat → Int32} {a18 : Nat → Int64} {lf lg d p i : Nat} {kf af kg : Int32} (C : ca_cfg lf lg kf af kg a3 a9 a11 a12) (hp : p < 6) (hd : d ≤ 20) (hi : i < d) {v : Bool} (hv : ca_bt (a16 (21 * p + i)) (ca_ix lf lg p) = v) (H : post (ca_b v)) :
    wpX_holds post (ft, fh, 6, (nI d), fg, a1, a2, a3, a4, a5, a6, a7, a8, a9, a10, a11, a12, a13, a14, a15, a16, a17, a18, a19) (nI p) (nI i) := by
  refine ca_holds C hp hd (by omega) ?_
  unfold ca_hv
  rw [if_pos ⟨hp, hi⟩, hv]
  exact H
def ca_li (f : Nat → Int32) : Nat → Int64 → Int64
  | 0, h => h
  | n + 1, h => 31 * ca_li f n h + (f n).toInt64
def ca_lo (g : Nat → Nat → Int32) : Nat → Int64 → Int64
  | 0, h => h
  | n + 1, h => ca_li (g n) 20 (ca_lo g n h)
theorem ca_l17 {post : Int64 → Prop} {J : Int64 → Int32 → Prop} {ft fh fg : Int32} {a1 a2 a3 a4 a5 a6 a7 a8 a9 a10 a11 a12 a13 a14 a15 a16 a17 a19 : Nat → Int32} {a18 : Nat → Int64} {lf lg d p : Nat} {kf af kg : Int32} (C : ca_cfg lf lg kf af kg a3 a9 a11 a12) (hp : p < 6) (hd : d ≤ 20) (h0 : Int64)
    (H : J (ca_li (ca_hv lf lg d a16 p) 20 h0) (nI (p + 1))) : ∀ r i, i + r = 20 → wL_look_17 post J (nI p) ft fh 6 (nI d) fg a1 a2 a3 a4 a5 a6 a7 a8 a9 a10 a11 a12 a13 a14 a15 a16 a17 a18 a19 (r + 1) (ca_li (ca_hv lf lg d a16 p) i h0) (nI i) := by
  intro r
  induction r with
  | zero =>
    intro i hi
    obtain rfl : i = 20 := by omega
    exact pk_le 20 20 (fun _ => nm_r (nI_1 p) H) (fun z => absurd z (by omega))
  | succ r ih =>
    intro i hi
    refine pk_le 20 i (fun z => absurd z (by omega)) (fun _ => ?_)
    exact ca_holds C hp hd (by omega) (nm_e (nm_r (nI_1 i) (ih (i + 1) (by omega))))
theorem ca_l8 {post : Int64 → Prop} {ft fh fg : Int32} {a1 a2 a3 a4 a5 a6 a7 a8 a9 a10 a11 a12 a13 a14 a15 a16 a17 a19 : Nat → Int32} {a18 : Nat → Int64} {lf lg d : Nat} {kf af kg : Int32} (C : ca_cfg lf lg kf af kg a3 a9 a11 a12) (hd : d ≤ 20) (h0 : Int64)
    (H : post (ca_lo (ca_hv lf lg d a16) 6 h0)) : ∀ r p, p + r = 6 → wL_look_8 post ft fh 6 (nI d) fg a1 a2 a3 a4 a5 a6 a7 a8 a9 a10 a11 a12 a13 a14 a15 a16 a17 a18 a19 (r + 1) (ca_lo (ca_hv lf lg d a16) p h0) (nI p) := by
  intro r
  induction r with
  | zero =>
    intro p hp
    obtain rfl : p = 6 := by omega
    exact pk_le 6 6 (fun _ => H) (fun z => absurd z (by omega))
  | succ r ih =>
    intro p hp
    refine pk_le 6 p (fun z => absurd z (by omega)) (fun _ => ?_)
    exact ⟨21, ca_l17 C (by omega) hd _ (ih (p + 1) (by omega)) 20 0 (by omega)⟩
theorem ca_look {post : Int64 → Prop} {ft fh fg : Int32} {a1 a2 a3 a4 a5 a6 a7 a8 a9 a10 a11 a12 a13 a14 a15 a16 a17 a19 : Nat → Int32} {a18 : Nat → Int64} {lf lg d : Nat} {kf af kg : Int32} (C : ca_cfg lf lg kf af kg a3 a9 a11 a12) (hd : d ≤ 20)
    (H : post (ca_lo (ca_hv lf lg d a16) 6 (nI d).toInt64)) : wpL_look post (ft, fh, 6, (nI d), fg, a1, a2, a3, a4, a5, a6, a7, a8, a9, a10, a11, a12, a13, a14, a15, a16, a17, a18, a19) := by
  have h : ∃ n, wL_look_8 post ft fh 6 (nI d) fg a1 a2 a3 a4 a5 a6 a7 a8 a9 a10 a11 a12 a13 a14 a15 a16 a17 a18 a19 n (nI d).toInt64 0 := ⟨7, ca_l8 C hd _ H 6 0 (by omega)⟩
  exact h
theorem ca_laws {post : Int32 → Prop} {ft fh fg : Int32} {a1 a2 a3 a4 a5 a6 a7 a8 a9 a10 a11 a12 a13 a14 a15 a16 a17 a19 : Nat → Int32} {a18 : Nat → Int64} {lf lg d i : Nat} {kf af kg : Int32} (C : ca_cfg lf lg kf af kg a3 a9 a11 a12) (O : ca_ok lf lg kf af a2 a3 a4 a5 d a15 a16 a17 a18) (hd : d ≤ 20) (hi : i < d) (H : post 1) :
    wpL_laws post (ft, fh, 6, (nI d), fg, a1, a2, a3, a4, a5, a6, a7, a8, a9, a10, a11, a12, a13, a14, a15, a16, a17, a18, a19) (nI i) := by
  have c0 := (O.2 i 0 hi (by omega)).1 (by omega)
  have c1 := (O.2 i 1 hi (by omega)).1 (by omega)
  have c2 := (O.2 i 2 hi (by omega)).1 (by omega)
  have c3 := (O.2 i 3 hi (by omega)).1 (by omega)
  have c4 := (O.2 i 4 hi (by omega)).1 (by omega)
  have c5 := (O.2 i 5 hi (by omega)).2.1 rfl
  generalize ca_F a2 a3 a4 a5 lf kf af a15 i = F at *
  generalize ca_ev (ca_F a2 a3 a4 a5 lf kf af a15) i = E at *
  unfold wpL_laws
  refine ca_holdsV (p := 0) C (by omega) hd hi c0 ?_
  refine ca_holdsV (p := 1) C (by omega) hd hi c1 ?_
  refine ca_holdsV (p := 2) C (by omega) hd hi c2 ?_
  refine ca_holdsV (p := 3) C (by omega) hd hi c3 ?_
  refine ca_holdsV (p := 4) C (by omega) hd hi c4 ?_
  refine ca_holdsV (p := 5) C (by omega) hd hi rfl ?_
  generalize ca_bt (a16 (21 * 5 + i)) (ca_ix lf lg 5) = s at *
  unfold wL_laws_58 wL_laws_63 wL_laws_82 wL_laws_98 wL_laws_99 wL_laws_106 wL_laws_107
  cases F <;> cases E <;> cases s <;> first | exact absurd (c5 rfl) (by decide) | simp [ca_val, ca_b, H]
end
section
/-! ===== tried, would, wouldHold ===== -/
/-- what the whole formula of piece p would be at depth d under the method m -/
def ca_tv (lf : Nat) (kf af : Int32) (a2 a3 a4 a5 a15 : Nat → Int32) (d p m : Nat) : Bool :=
  ca_val (ca_F a2 a3 a4 a5 lf kf af (upd a15 d (nI m)) d) (ca_ev (ca_F a2 a3 a4 a5 lf kf af (upd a15 d (nI m))) d) p
theorem ca_tv_eq {lf d p m : Nat} {kf af : Int32} {a2 a3 a4 a5 a15 b15 : Nat → Int32} (h : ∀ q, q < d → b15 q = a15 q) : ca_tv lf kf af a2 a3 a4 a5 b15 d p m = ca_tv lf kf af a2 a3 a4 a5 a15 d p m := by
  have e : ∀ q, q ≤ d → upd b15 d (nI m) q = upd a15 d (nI m) q := by
    intro q hq
    by_cases z : q = d
    · rw [z, pk_us, pk_us]
    · rw [pk_un z, pk_un z]
      exact h q (by omega)
  unfold ca_tv
  rw [ca_F_eq e, ca_ev_eq d (fun q hq => e q (by omega))]
theorem ca_mok {a15 : Nat → Int32} {d m : Nat} (h : ∀ i, i < d → vp_in (a15 i) 16) (hm : m < 16) : ∀ q, q ≤ d → vp_in (upd a15 d (nI m) q) 16 := by
  intro q hq
  by_cases z : q = d
  · rw [z, pk_us]
    exact pk_in m 16 hm
  · rw [pk_un z]
    exact h q (by omega)
theorem ca_tried {post : Int32 → St1 → Prop} {ft fh fg : Int32} {a1 a2 a3 a4 a5 a6 a7 a8 a9 a10 a11 a12 a13 a14 a15 a16 a17 a19 : Nat → Int32} {a18 : Nat → Int64} {lf lg d p m : Nat} {kf af kg : Int32} (C : ca_cfg lf lg kf af kg a3 a9 a11 a12) (O : ca_ok lf lg kf af a2 a3 a4 a5 d a15 a16 a17 a18) (hd : d < 20) (hp : p < 5) (hm : m < 16)
    (H : ∀ b15 b16 b17 b18, ca_fr d a15 a16 a17 a18 b15 b16 b17 b18 → post (ca_b (ca_tv lf kf af a2 a3 a4 a5 a15 d p m)) (ft, fh, 6, (nI d), fg, a1, a2, a3, a4, a5, a6, a7, a8, a9, a10, a11, a12, a13, a14, b15, b16, b17, b18, a19)) :
    wpX_tried post (ft, fh, 6, (nI d), fg, a1, a2, a3, a4, a5, a6, a7, a8, a9, a10, a11, a12, a13, a14, a15, a16, a17, a18, a19) (nI p) (nI m) := by
  refine And.intro (pk_in d 21 (by omega)) (nm_r (e' := upd a15 d (nI m)) (by rw [nI_clamp (by omega)]) ?_)
  have O' := ca_ok_fr O (ca_fr_m (nI m))
  have hx := ca_ix_lt (p := p) C.1 C.2.1
  refine ca_wo C (by omega) (by omega) (ca_mok O.1 hm) (fun i' e => ?_) (fun h e m' hc => ?_)
  · subst e
    exact O'.2 i' p (by omega) (by omega)
  · refine ca_whole (C.2.2.2.2.2 p (by omega)).1 (by omega) (by omega) (by omega) (v := ca_tv lf kf af a2 a3 a4 a5 a15 d p m) ?_ ?_
    · rw [pk_us]
      exact hc.1 hp
    · exact And.intro (ca_nb _) (H _ _ _ _ (ca_fr_t (ca_fr_m (nI m)) (ca_fr_c (by omega) h e m')))
theorem ca_w26 {post : Int32 → St1 → Prop} {ft fh fg : Int32} {a1 a2 a3 a4 a5 a6 a7 a8 a9 a10 a11 a12 a13 a14 a15 a16 a17 a19 : Nat → Int32} {a18 : Nat → Int64} {lf lg d p : Nat} {kf af kg : Int32} (C : ca_cfg lf lg kf af kg a3 a9 a11 a12) (O : ca_ok lf lg kf af a2 a3 a4 a5 d a15 a16 a17 a18) (hd : d < 20) (hp : p < 5)
    (H : ∀ x b15 b16 b17 b18, (∀ m, m < 16 → ca_bt x m = ca_tv lf kf af a2 a3 a4 a5 a15 d p m) → ca_fr d a15 a16 a17 a18 b15 b16 b17 b18 → post x (ft, fh, 6, (nI d), fg, a1, a2, a3, a4, a5, a6, a7, a8, a9, a10, a11, a12, a13, a14, b15, b16, b17, b18, a19)) :
    ∀ r i, i + r = 16 → ∀ x b15 b16 b17 b18, (∀ m, m < i → ca_bt x m = ca_tv lf kf af a2 a3 a4 a5 a15 d p m) → (∀ m, i ≤ m → m < 32 → ca_bt x m = false) → ca_fr d a15 a16 a17 a18 b15 b16 b17 b18 →
      wX_would_26 post (nI p) (r + 1) x (nI i) ft fh 6 (nI d) fg a1 a2 a3 a4 a5 a6 a7 a8 a9 a10 a11 a12 a13 a14 b15 b16 b17 b18 a19 := by
  intro r
  induction r with
  | zero =>
    intro i hi x b15 b16 b17 b18 h1 h2 g
    obtain rfl : i = 16 := by omega
    exact pk_le 16 16 (fun _ => H x b15 b16 b17 b18 h1 g) (fun z => absurd z (by omega))
  | succ r ih =>
    intro i hi x b15 b16 b17 b18 h1 h2 g
    refine pk_le 16 i (fun z => absurd z (by omega)) (fun _ => ?_)
    refine ca_tried C (ca_ok_fr O g) hd hp (by omega) (fun c15 c16 c17 c18 g2 => ?_)
    rw [ca_tv_eq g.1]
    refine ca_z _ (fun hv => nm_e (nm_r (nI_1 i) (ih (i + 1) (by omega) _ c15 c16 c17 c18 (fun m hm => ?_) (fun m hm hm2 => ?_) (ca_fr_t g g2)))) (fun hv => nm_e (nm_r (nI_1 i) (ih (i + 1) (by omega) _ c15 c16 c17 c18 (fun m hm => ?_) (fun m hm hm2 => ?_) (ca_fr_t g g2))))
    · rw [ca_or, ca_b0, Bool.or_false]
      by_cases e : m = i
      · subst e
        rw [hv]
        exact h2 m (by omega) (by omega)
      · exact h1 m (by omega)
    · rw [ca_or, ca_b0, Bool.or_false]
      exact h2 m (by omega) hm2
    · rw [ca_or, ca_one i (by omega) m (by omega)]
      by_cases e : m = i
      · subst e
        rw [hv, decide_eq_true rfl, Bool.or_true]
      · rw [decide_eq_false e, Bool.or_false]
        exact h1 m (by omega)
    · rw [ca_or, ca_one i (by omega) m hm2, decide_eq_false (by omega), Bool.or_false]
      exact h2 m (by omega) hm2
theorem ca_would {post : Int32 → St1 → Prop} {ft fh fg : Int32} {a1 a2 a3 a4 a5 a6 a7 a8 a9 a10 a11 a12 a13 a14 a15 a16 a17 a19 : Nat → Int32} {a18 : Nat → Int64} {lf lg d p : Nat} {kf af kg : Int32} (C : ca_cfg lf lg kf af kg a3 a9 a11 a12) (O : ca_ok lf lg kf af a2 a3 a4 a5 d a15 a16 a17 a18) (hd : d < 20) (hp : p < 5)
    (H : ∀ x b15 b16 b17 b18, (∀ m, m < 16 → ca_bt x m = ca_tv lf kf af a2 a3 a4 a5 a15 d p m) → ca_fr d a15 a16 a17 a18 b15 b16 b17 b18 → post x (ft, fh, 6, (nI d), fg, a1, a2, a3, a4, a5, a6, a7, a8, a9, a10, a11, a12, a13, a14, b15, b16, b17, b18, a19)) :
    wpX_would post (ft, fh, 6, (nI d), fg, a1, a2, a3, a4, a5, a6, a7, a8, a9, a10, a11, a12, a13, a14, a15, a16, a17, a18, a19) (nI p) := by
  unfold wpX_would
  refine ca_isP (by omega) ?_
  refine br_f (by decide) ?_
  refine pk_lt d 20 (fun _ => ?_) (fun z => absurd z (by omega))
  exact ⟨17, ca_w26 C O hd hp H 16 0 (by omega) 0 a15 a16 a17 a18 (fun m hm => absurd hm (by omega)) (fun m _ _ => ca_b0 m) ca_fr_r⟩
theorem ca_wouldHold {post : Int32 → St1 → Prop} {ft fh fg : Int32} {a1 a2 a3 a4 a5 a6 a7 a8 a9 a10 a11 a12 a13 a14 a15 a16 a17 a19 : Nat → Int32} {a18 : Nat → Int64} {lf lg d p m : Nat} {kf af kg : Int32} (C : ca_cfg lf lg kf af kg a3 a9 a11 a12) (O : ca_ok lf lg kf af a2 a3 a4 a5 d a15 a16 a17 a18) (hd : d < 20) (hp : p < 5) (hm : m < 16)
    (H : ∀ b15 b16 b17 b18, ca_fr d a15 a16 a17 a18 b15 b16 b17 b18 → post (ca_b (ca_tv lf kf af a2 a3 a4 a5 a15 d p m)) (ft, fh, 6, (nI d), fg, a1, a2, a3, a4, a5, a6, a7, a8, a9, a10, a11, a12, a13, a14, b15, b16, b17, b18, a19)) :
    wpX_wouldHold post (ft, fh, 6, (nI d), fg, a1, a2, a3, a4, a5, a6, a7, a8, a9, a10, a11, a12, a13, a14, a15, a16, a17, a18, a19) (nI p) (nI m) := by
  unfold wpX_wouldHold
  refine ca_isP (by omega) ?_
  refine br_f (by decide) ?_
  refine ca_isM hm ?_
  refine br_f (by decide) ?_
  refine pk_lt d 20 (fun _ => ?_) (fun z => absurd z (by omega))
  refine ca_tried C O hd hp hm (fun b15 b16 b17 b18 g => ?_)
  have h := H b15 b16 b17 b18 g
  generalize ca_tv lf kf af a2 a3 a4 a5 a15 d p m = v at *
  exact ca_z v (fun e => by subst e; exact h) (fun e => by subst e; exact h)
/-! ===== give, call, giveBack ===== -/
abbrev ca_T7 : Type := Int32 → Int32 → Int32 → Int32 → Int32 → Int32 → Int32 → (Nat → Int32) → (Nat → Int32) → (Nat → Int32) → (Nat → Int32) → (Nat → Int32) → (Nat → Int32) → (Nat → Int32) → (Nat → Int32) → (Nat → Int32) → (Nat → Int32) → (Nat → Int32) → (Nat → Int32) → (Nat → Int32) → (Nat → Int32) → (Nat → Int32) → (Nat → Int32) → (Nat → Int32) → (Nat → Int64) → (Nat → Int32) → Prop
theorem ca_give {post : St1 → Prop} {ft fh fp fd : Int32} {a1 a2 a3 a4 a5 a6 a7 a8 a9 a10 a11 a12 a13 a14 a15 a16 a17 a19 : Nat → Int32} {a18 : Nat → Int64} {g p : Nat} (hg : g < 1000000) (hp : p < 6) (H : ∀ b14 b19, post (ft, fh, fp, fd, (nI (g + 1)), a1, a2, a3, a4, a5, a6, a7, a8, a9, a10, a11, a12, a13, b14, a15, a16, a17, a18, b19)) : wpX_give post (ft, fh, fp, fd, (nI g), a1, a2, a3, a4, a5, a6, a7, a8, a9, a10, a11, a12, a13, a14, a15, a16, a17, a18, a19) (nI p) :=
  And.intro (by decide) (And.intro (pk_in (g % 64) 64 (Nat.mod_lt g (by decide)) (pk_rem (d := 64) (by omega) (by omega) (by omega))) (nm_e (nm_r (nI_1 g) (And.intro (pk_in p 6 hp) (And.intro (pk_in p 6 hp) (nm_e (H _ _)))))))
theorem ca_78 {post : Int32 → St1 → Prop} {J : ca_T7} {ft fh fp fd : Int32} {a1 a2 a3 a4 a5 a6 a7 a8 a9 a10 a11 a12 a13 a14 a15 a16 a17 a19 : Nat → Int32} {a18 : Nat → Int64} {g p c : Nat} (hg : g < 1000000) (hp : p < 6) (v : Bool)
    (H0 : J (nI c) (nI (p + 1)) ft fh fp fd (nI g) a1 a2 a3 a4 a5 a6 a7 a8 a9 a10 a11 a12 a13 a14 a15 a16 a17 a18 a19) (H1 : ∀ b14 b19, J (nI (c + 1)) (nI (p + 1)) ft fh fp fd (nI (g + 1)) a1 a2 a3 a4 a5 a6 a7 a8 a9 a10 a11 a12 a13 b14 a15 a16 a17 a18 b19) : wX_call_78 post J (nI c) (nI p) (ca_b v) ft fh fp fd (nI g) a1 a2 a3 a4 a5 a6 a7 a8 a9 a10 a11 a12 a13 a14 a15 a16 a17 a18 a19 :=
  ca_z v (fun _ => nm_r (nI_1 p) H0) (fun _ => ca_give hg hp (fun b14 b19 => nm_r (nI_1 c) (nm_r (nI_1 p) (H1 b14 b19))))
theorem ca_c35 {post : Int32 → St1 → Prop} {ft fh : Int32} {a1 a2 a3 a4 a5 a6 a7 a8 a9 a10 a11 a12 a13 a15 a16 a17 : Nat → Int32} {a18 : Nat → Int64} {lf lg d g m : Nat} {kf af kg : Int32} (C : ca_cfg lf lg kf af kg a3 a9 a11 a12) (O : ca_ok lf lg kf af a2 a3 a4 a5 d a15 a16 a17 a18) (hd : d < 20) (hg : g < 100000) (hm : m < 16)
    (H : ∀ c g' b14 b16 b17 b18 b19, g' ≤ g + 6 → c ≤ 6 → ca_fr d a15 a16 a17 a18 (upd a15 d (nI m)) b16 b17 b18 → ca_ok lf lg kf af a2 a3 a4 a5 (d + 1) (upd a15 d (nI m)) b16 b17 b18 →
      post (nI c) (ft, fh, 6, (nI (d + 1)), (nI g'), a1, a2, a3, a4, a5, a6, a7, a8, a9, a10, a11, a12, a13, b14, (upd a15 d (nI m)), b16, b17, b18, b19)) :
    ∀ r p, p + r = 6 → ∀ c g' b14 b16 b17 b18 b19, g' ≤ g + p → c ≤ p → ca_fr d a15 a16 a17 a18 (upd a15 d (nI m)) b16 b17 b18 →
      (∀ q, q < p → ca_cell lf lg q (ca_F a2 a3 a4 a5 lf kf af (upd a15 d (nI m)) d) (ca_ev (ca_F a2 a3 a4 a5 lf kf af (upd a15 d (nI m))) d) (b16 (21 * q + d)) (b17 (21 * q + d)) (b18 (21 * q + d))) →
      wX_call_35 post (r + 1) (nI c) (nI p) ft fh 6 (nI d) (nI g') a1 a2 a3 a4 a5 a6 a7 a8 a9 a10 a11 a12 a13 b14 (upd a15 d (nI m)) b16 b17 b18 b19 := by
  intro r
  induction r with
  | zero =>
    intro p hp c g' b14 b16 b17 b18 b19 h1 h2 g3 h4
    obtain rfl : p = 6 := by omega
    refine pk_le 6 6 (fun _ => nm_r (nI_1 d) (H c g' b14 b16 b17 b18 b19 h1 h2 g3 ?_)) (fun z => absurd z (by omega))
    have O' := ca_ok_fr O g3
    refine ⟨fun i hi => ca_mok O.1 hm i (by omega), fun i p hi hp => ?_⟩
    rcases Nat.lt_or_ge i d with z | z
    · exact O'.2 i p z hp
    · obtain rfl : i = d := by omega
      exact h4 p hp
  | succ r ih =>
    intro p hp c g' b14 b16 b17 b18 b19 h1 h2 g3 h4
    have O' := ca_ok_fr O g3
    have hx := ca_ix_lt (p := p) C.1 C.2.1
    refine pk_le 6 p (fun z => absurd z (by omega)) (fun _ => ?_)
    refine ca_wo C (by omega) (by omega) (ca_mok O.1 hm) (fun i' e => ?_) (fun h e m' hc => ?_)
    · subst e
      exact O'.2 i' p (by omega) (by omega)
    · have K : ∀ (b : Bool), wX_call_78 post (wX_call_35 post (r + 1)) (nI c) (nI p) (ca_b b) ft fh 6 (nI d) (nI g') a1 a2 a3 a4 a5 a6 a7 a8 a9 a10 a11 a12 a13 b14 (upd a15 d (nI m)) (upd b16 (21 * p + d) h) (upd b17 (21 * p + d) e) (vp_updL b18 (21 * p + d) m') b19 := by
        have g4 : ca_fr d a15 a16 a17 a18 (upd a15 d (nI m)) (upd b16 (21 * p + d) h) (upd b17 (21 * p + d) e) (vp_updL b18 (21 * p + d) m') := ca_fr_t g3 (ca_fr_c (by omega) h e m')
        have h5 : ∀ q, q < p + 1 → ca_cell lf lg q (ca_F a2 a3 a4 a5 lf kf af (upd a15 d (nI m)) d) (ca_ev (ca_F a2 a3 a4 a5 lf kf af (upd a15 d (nI m))) d) (upd b16 (21 * p + d) h (21 * q + d)) (upd b17 (21 * p + d) e (21 * q + d)) (vp_updL b18 (21 * p + d) m' (21 * q + d)) := by
          intro q hq
          by_cases z : q = p
          · subst z
            rw [pk_us, pk_us, pk_uLs]
            exact hc
          · rw [pk_un (by omega), pk_un (by omega), pk_uLn (by omega)]
            exact h4 q (by omega)
        intro b
        exact ca_78 (by omega) (by omega) b (ih (p + 1) (by omega) c g' b14 _ _ _ b19 (by omega) (by omega) g4 h5) (fun c14 c19 => ih (p + 1) (by omega) (c + 1) (g' + 1) c14 _ _ _ c19 (by omega) (by omega) g4 h5)
      refine And.intro (pk_in p 6 (by omega)) (br_c (fun _ => ?_) (fun _ => K false))
      exact ca_whole (C.2.2.2.2.2 p (by omega)).1 (by omega) (by omega) (by omega) rfl (ca_z _ (fun _ => K false) (fun _ => K true))
theorem ca_call {post : Int32 → St1 → Prop} {ft fh : Int32} {a1 a2 a3 a4 a5 a6 a7 a8 a9 a10 a11 a12 a13 a14 a15 a16 a17 a19 : Nat → Int32} {a18 : Nat → Int64} {lf lg d g m : Nat} {kf af kg : Int32} (C : ca_cfg lf lg kf af kg a3 a9 a11 a12) (O : ca_ok lf lg kf af a2 a3 a4 a5 d a15 a16 a17 a18) (hd : d < 20) (hg : g < 100000) (hm : m < 16)
    (H : ∀ c g' b14 b16 b17 b18 b19, g' ≤ g + 6 → c ≤ 6 → ca_fr d a15 a16 a17 a18 (upd a15 d (nI m)) b16 b17 b18 → ca_ok lf lg kf af a2 a3 a4 a5 (d + 1) (upd a15 d (nI m)) b16 b17 b18 →
      post (nI c) (ft, fh, 6, (nI (d + 1)), (nI g'), a1, a2, a3, a4, a5, a6, a7, a8, a9, a10, a11, a12, a13, b14, (upd a15 d (nI m)), b16, b17, b18, b19)) :
    wpX_call post (ft, fh, 6, (nI d), (nI g), a1, a2, a3, a4, a5, a6, a7, a8, a9, a10, a11, a12, a13, a14, a15, a16, a17, a18, a19) (nI m) := by
  unfold wpX_call
  refine ca_isM hm ?_
  refine br_f (by decide) ?_
  refine pk_lt d 20 (fun _ => ?_) (fun z => absurd z (by omega))
  refine And.intro (pk_in d 21 (by omega)) (nm_r (e' := upd a15 d (nI m)) (by rw [nI_clamp (by omega)]) ?_)
  exact ⟨7, ca_c35 C O hd hg hm H 6 0 (by omega) 0 g a14 a16 a17 a18 a19 (by omega) (by omega) (ca_fr_m (nI m)) (fun q hq => absurd hq (by omega))⟩
theorem ca_59 {post : Int32 → St1 → Prop} {J : ca_T7} {ft fh fp fd : Int32} {a1 a2 a3 a4 a5 a6 a7 a8 a9 a10 a11 a12 a13 a14 a15 a16 a17 a19 : Nat → Int32} {a18 : Nat → Int64} {g p c : Nat} (hg : g < 1000000) (hp : p < 6) (v : Bool)
    (H0 : J (nI c) (nI p + (-1)) ft fh fp fd (nI g) a1 a2 a3 a4 a5 a6 a7 a8 a9 a10 a11 a12 a13 a14 a15 a16 a17 a18 a19) (H1 : ∀ b14 b19, J (nI (c + 1)) (nI p + (-1)) ft fh fp fd (nI (g + 1)) a1 a2 a3 a4 a5 a6 a7 a8 a9 a10 a11 a12 a13 b14 a15 a16 a17 a18 b19) : wX_giveBack_59 post J (nI c) (nI p) (ca_b v) ft fh fp fd (nI g) a1 a2 a3 a4 a5 a6 a7 a8 a9 a10 a11 a12 a13 a14 a15 a16 a17 a18 a19 :=
  ca_z v (fun _ => nm_e H0) (fun _ => ca_give hg hp (fun b14 b19 => nm_r (nI_1 c) (nm_e (H1 b14 b19))))
theorem ca_g28 {post : Int32 → St1 → Prop} {ft fh : Int32} {a1 a2 a3 a4 a5 a6 a7 a8 a9 a10 a11 a12 a13 a15 a16 a17 : Nat → Int32} {a18 : Nat → Int64} {lf lg d g : Nat} {kf af kg : Int32} (C : ca_cfg lf lg kf af kg a3 a9 a11 a12) (hd : d < 20) (hg : g < 100000)
    (H : ∀ c g' b14 b19, g' ≤ g + 6 → c ≤ 6 → post (nI c) (ft, fh, 6, (nI d), (nI g'), a1, a2, a3, a4, a5, a6, a7, a8, a9, a10, a11, a12, a13, b14, a15, a16, a17, a18, b19)) :
    ∀ p, p ≤ 6 → ∀ c g' b14 b19, g' + p ≤ g + 6 → c + p ≤ 6 → wX_giveBack_28 post (p + 1) (nI c) (nI p + (-1)) ft fh 6 (nI d) (nI g') a1 a2 a3 a4 a5 a6 a7 a8 a9 a10 a11 a12 a13 b14 a15 a16 a17 a18 b19 := by
  intro p
  induction p with
  | zero =>
    intro _ c g' b14 b19 h1 h2
    exact br_t (by decide) (H c g' b14 b19 (by omega) (by omega))
  | succ p ih =>
    intro hp c g' b14 b19 h1 h2
    have hx := ca_ix_lt (p := p) C.1 C.2.1
    rw [pk_m1]
    have K : ∀ b : Bool, wX_giveBack_59 post (wX_giveBack_28 post (p + 1)) (nI c) (nI p) (ca_b b) ft fh 6 (nI d) (nI g') a1 a2 a3 a4 a5 a6 a7 a8 a9 a10 a11 a12 a13 b14 a15 a16 a17 a18 b19 := fun b =>
      ca_59 (by omega) (by omega) b (ih (by omega) c g' b14 b19 (by omega) (by omega)) (fun c14 c19 => ih (by omega) (c + 1) (g' + 1) c14 c19 (by omega) (by omega))
    refine br_f (nI_pos (by omega)) (And.intro (pk_in p 6 (by omega)) (br_c (fun _ => ?_) (fun _ => K false)))
    exact ca_whole (C.2.2.2.2.2 p (by omega)).1 (by omega) (by omega) (by omega) rfl (ca_z _ (fun _ => K false) (fun _ => K true))
theorem ca_giveBack {post : Int32 → St1 → Prop} {ft fh : Int32} {a1 a2 a3 a4 a5 a6 a7 a8 a9 a10 a11 a12 a13 a14 a15 a16 a17 a19 : Nat → Int32} {a18 : Nat → Int64} {lf lg d g : Nat} {kf af kg : Int32} (C : ca_cfg lf lg kf af kg a3 a9 a11 a12) (hd : d < 20) (hg : g < 100000)
    (H : ∀ c g' b14 b19, g' ≤ g + 6 → c ≤ 6 → post (nI c) (ft, fh, 6, (nI d), (nI g'), a1, a2, a3, a4, a5, a6, a7, a8, a9, a10, a11, a12, a13, b14, a15, a16, a17, a18, b19)) :
    wpX_giveBack post (ft, fh, 6, (nI (d + 1)), (nI g), a1, a2, a3, a4, a5, a6, a7, a8, a9, a10, a11, a12, a13, a14, a15, a16, a17, a18, a19) := by
  refine br_f (nI_ne0 (by omega) (by omega)) (nm_r (nI_pred d) (nm_r (e' := nI 6 + (-1)) (by decide) ?_))
  exact ⟨7, ca_g28 C hd hg H 6 (by omega) 0 g a14 a19 (by omega) (by omega)⟩
theorem ca_giveBack0 {post : Int32 → St1 → Prop} {ft fh fp fg : Int32} {a1 a2 a3 a4 a5 a6 a7 a8 a9 a10 a11 a12 a13 a14 a15 a16 a17 a19 : Nat → Int32} {a18 : Nat → Int64} (H : post (-1) (ft, fh, fp, 0, fg, a1, a2, a3, a4, a5, a6, a7, a8, a9, a10, a11, a12, a13, a14, a15, a16, a17, a18, a19)) : wpX_giveBack post (ft, fh, fp, 0, fg, a1, a2, a3, a4, a5, a6, a7, a8, a9, a10, a11, a12, a13, a14, a15, a16, a17, a18, a19) := br_t rfl H
end
section
/-! ===== the law's main loop ===== -/
abbrev ca_T6 : Type := Int32 → Int32 → Int32 → Int32 → Int32 → Int32 → (Nat → Int32) → (Nat → Int32) → (Nat → Int32) → (Nat → Int32) → (Nat → Int32) → (Nat → Int32) → (Nat → Int32) → (Nat → Int32) → (Nat → Int32) → (Nat → Int32) → (Nat → Int32) → (Nat → Int32) → (Nat → Int32) → (Nat → Int32) → (Nat → Int32) → (Nat → Int32) → (Nat → Int32) → (Nat → Int64) → (Nat → Int32) → Prop
theorem ca_dep {post : Int32 → Prop} {ft fh fp fd fg : Int32} {a1 a2 a3 a4 a5 a6 a7 a8 a9 a10 a11 a12 a13 a14 a15 a16 a17 a19 : Nat → Int32} {a18 : Nat → Int64} (H : post fd) : wpX_depth post (ft, fh, fp, fd, fg, a1, a2, a3, a4, a5, a6, a7, a8, a9, a10, a11, a12, a13, a14, a15, a16, a17, a18, a19) := H
theorem ca_cel {post : Int32 → Prop} {L : Nat} {xs : Nat → Int32} (hL : L ≤ 260) (k : Nat) (hk : k < 1000) (H : ∀ c, post c) : wpL_cell post L xs () (nI k) :=
  pk_le L k (fun _ => H 0) (fun h => And.intro (pk_in k L h) (H _))
theorem ca_m413 {post : Int32 → Prop} {L : Nat} {xs : Nat → Int32} {J : ca_T6} {kc ks : Nat} {ft fh fg : Int32} {a1 a2 a3 a4 a5 a6 a7 a8 a9 a10 a11 a12 a13 a14 a15 a16 a17 a19 : Nat → Int32} {a18 : Nat → Int64} {lf lg d x : Nat} {kf af kg : Int32} (C : ca_cfg lf lg kf af kg a3 a9 a11 a12) (O : ca_ok lf lg kf af a2 a3 a4 a5 d a15 a16 a17 a18) (hd : d ≤ 20)
    (HJ : J (nI (x + 1)) ft fh 6 (nI d) fg a1 a2 a3 a4 a5 a6 a7 a8 a9 a10 a11 a12 a13 a14 a15 a16 a17 a18 a19) : ∀ r k, k + r = 20 → wL_law_413 post L xs J (nI x) kc ks ft fh 6 (nI d) fg a1 a2 a3 a4 a5 a6 a7 a8 a9 a10 a11 a12 a13 a14 a15 a16 a17 a18 a19 (r + 1) (nI k) := by
  intro r
  induction r with
  | zero =>
    intro k hk
    obtain rfl : k = 20 := by omega
    exact pk_le 20 20 (fun _ => nm_r (nI_1 x) HJ) (fun z => absurd z (by omega))
  | succ r ih =>
    intro k hk
    refine pk_le 20 k (fun z => absurd z (by omega)) (fun _ => ca_dep ?_)
    refine pk_le d k (fun _ => nm_r (nI_1 x) HJ) (fun h => ?_)
    exact ca_laws C O hd h (br_f (by decide) (nm_r (nI_1 k) (ih (k + 1) (by omega))))
theorem ca_m377 {post : Int32 → Prop} {L : Nat} {xs : Nat → Int32} {J : ca_T6} {kc ks : Nat} {y : Int32} {ft fh : Int32} {a1 a2 a3 a4 a5 a6 a7 a8 a9 a10 a11 a12 a13 a14 a15 a16 a17 a19 : Nat → Int32} {a18 : Nat → Int64} {lf lg d g x : Nat} {kf af kg : Int32} (C : ca_cfg lf lg kf af kg a3 a9 a11 a12) (O : ca_ok lf lg kf af a2 a3 a4 a5 d a15 a16 a17 a18) (hd : d ≤ 20) (hg : g < 100000)
    (HJ : ∀ d' g' b14 b19, d' ≤ d → g' ≤ g + 6 → J (nI (x + 1)) ft fh 6 (nI d') (nI g') a1 a2 a3 a4 a5 a6 a7 a8 a9 a10 a11 a12 a13 b14 a15 a16 a17 a18 b19) : wL_law_377 post L xs J (nI x) y kc ks ft fh 6 (nI d) (nI g) a1 a2 a3 a4 a5 a6 a7 a8 a9 a10 a11 a12 a13 a14 a15 a16 a17 a18 a19 := by
  refine br_c (fun _ => br_c (fun _ => ?_) (fun _ => ?_)) (fun _ => ?_)
  · exact ⟨21, ca_m413 (d := 0) C (ca_ok_dn O (by omega)) (by omega) (HJ 0 g a14 a19 (by omega) (by omega)) 20 0 (by omega)⟩
  · exact ⟨21, ca_m413 C O hd (HJ d g a14 a19 (by omega) (by omega)) 20 0 (by omega)⟩
  · cases d with
    | zero => exact ca_giveBack0 ⟨21, ca_m413 (d := 0) C O hd (HJ 0 g a14 a19 (by omega) (by omega)) 20 0 (by omega)⟩
    | succ d =>
      refine ca_giveBack C (by omega) hg (fun c g' b14 b19 h1 h2 => ?_)
      exact ⟨21, ca_m413 C (ca_ok_dn O (by omega)) (by omega) (HJ d g' b14 b19 (by omega) (by omega)) 20 0 (by omega)⟩
theorem ca_m227 {post : Int32 → Prop} {L : Nat} {xs : Nat → Int32} {kc ks : Nat} (hL : L ≤ 260) (H : post 1) {ft fh : Int32} {a1 a2 a3 a4 a5 a6 a7 a8 a9 a10 a11 a12 a13 : Nat → Int32} {lf lg : Nat} {kf af kg : Int32} (C : ca_cfg lf lg kf af kg a3 a9 a11 a12) :
    ∀ r x, x + r = 60 → 11 ≤ x → ∀ d g a14 a15 a16 a17 a18 a19, d ≤ 20 → g ≤ 18 * (x - 11) → ca_ok lf lg kf af a2 a3 a4 a5 d a15 a16 a17 a18 → wL_law_227 post L xs kc ks (r + 1) (nI x) ft fh 6 (nI d) (nI g) a1 a2 a3 a4 a5 a6 a7 a8 a9 a10 a11 a12 a13 a14 a15 a16 a17 a18 a19 := by
  intro r
  induction r with
  | zero =>
    intro x hx _ d g a14 a15 a16 a17 a18 a19 hd hg O
    obtain rfl : x = 60 := by omega
    exact pk_le 60 60 (fun _ => H) (fun z => absurd z (by omega))
  | succ r ih =>
    intro x hx hx1 d g a14 a15 a16 a17 a18 a19 hd hg O
    refine pk_le 60 x (fun z => absurd z (by omega)) (fun _ => ?_)
    refine ca_cel hL x (by omega) (fun y => ca_dep ?_)
    obtain ⟨m, hm, em⟩ := pk_andE (y >>> ((3 : Int32) &&& 31)) (m := 15) 4 (by decide)
    obtain ⟨q, hq, eq⟩ := pk_andE (y >>> ((7 : Int32) &&& 31)) (m := 3) 2 (by decide)
    refine nm_r em ?_
    have K := ca_m377 (post := post) (L := L) (xs := xs) (J := wL_law_227 post L xs kc ks (r + 1)) (kc := kc) (ks := ks) (y := y) (ft := ft) (fh := fh) (x := x) (a1 := a1) (a6 := a6) (a7 := a7) (a8 := a8) (a10 := a10) (a13 := a13) (a14 := a14) (a19 := a19) (g := g) C O hd (by omega)
      (fun d' g' b14 b19 h1 h2 => ih (x + 1) (by omega) (by omega) d' g' b14 a15 a16 a17 a18 b19 (by omega) (by omega) (ca_ok_dn O h1))
    refine br_c (fun _ => K) (fun _ => pk_le 20 d (fun _ => K) (fun hd20 => ?_))
    rw [eq]
    refine ca_look C hd ?_
    refine ca_would C O hd20 (by omega) (fun w b15 b16 b17 b18 hw fr1 => ?_)
    refine ca_wouldHold C (ca_ok_fr O fr1) hd20 (by omega) hm (fun c15 c16 c17 c18 fr2 => ?_)
    have fr2' := ca_fr_t fr1 fr2
    refine br_t (by rw [ca_sh1 _ m (by omega), hw m hm, ca_tv_eq fr1.1]) ?_
    refine ca_call C (ca_ok_fr O fr2') hd20 (by omega) hm (fun n1 g1 d14 d16 d17 d18 d19 hg1 hn1 fr3 O3 => ?_)
    refine br_f (nI_pos (by omega)) ?_
    refine ca_holdsV C (by omega) (by omega) (Nat.lt_succ_self d) (v := ca_tv lf kf af a2 a3 a4 a5 b15 d q m) ?_ ?_
    · have h := (O3.2 d q (by omega) (by omega)).1 (by omega)
      rw [h, ← ca_tv_eq fr2.1]
      rfl
    refine br_t rfl ?_
    refine ca_giveBack C hd20 (by omega) (fun n2 g2 e14 e19 hg2 hn2 => ?_)
    refine br_f (nI_pos (by omega)) ?_
    have fr4 := ca_fr_t fr2' fr3
    refine ca_look C hd ?_
    refine br_t (by rw [ca_hv_eq fr4]) ?_
    refine ca_call C (ca_ok_fr O fr4) hd20 (by omega) hm (fun n3 g3 f14 f16 f17 f18 f19 hg3 hn3 fr5 O5 => ?_)
    refine br_t (nI_pos' (by omega)) ?_
    exact ⟨21, ca_m413 C O5 (by omega) (ih (x + 1) (by omega) (by omega) (d + 1) g3 f14 _ f16 f17 f18 f19 (by omega) (by omega) O5) 20 0 (by omega)⟩
end
section
/-! ===== the draft: tokens ===== -/
/-- the argument w fits the kind j -/
theorem ca_fit {post : Int32 → Prop} {j w : Nat} (hj : j ≤ 5) (hw : w < 100) (h0 : j = 0 → w ≤ 9) (h3 : j = 3 → w ≤ 3) (h5 : j = 5 → w ≤ 20) (h1 : j = 1 ∨ j = 2 ∨ j = 4 → w < 8) (H : post 1) : wpX_fits post () (nI j) (nI w) := by
  have hp : ¬ nI w < 0 := nI_pos (by omega)
  have K : w < 8 → wX_fits_72 post (nI w) := fun h => br_f hp (pk_le 8 w (fun z => absurd z (by omega)) (fun _ => H))
  refine br_f (nI_pos (by omega)) (pk_lt 9 j (fun z => absurd z (by omega)) (fun _ => ?_))
  refine pk_eq j 0 (fun e => br_f hp (pk_lt 9 w (fun z => absurd z (by omega)) (fun _ => H))) (fun e0 => ?_)
  refine pk_eq j 1 (fun e => K (h1 (by omega))) (fun e1 => ?_)
  refine pk_eq j 2 (fun e => K (h1 (by omega))) (fun e2 => ?_)
  refine pk_eq j 3 (fun e => br_f hp (pk_lt 3 w (fun z => absurd z (by omega)) (fun _ => H))) (fun e3 => ?_)
  refine pk_eq j 4 (fun e => K (h1 (by omega))) (fun e4 => ?_)
  exact pk_eq j 5 (fun e => br_f hp (pk_lt 20 w (fun z => absurd z (by omega)) (fun _ => H))) (fun e5 => absurd hj (by omega))
theorem ca_fitB {post : Int32 → Prop} {k : Nat} {y : Int32} (kk : k = 6 ∨ k = 7 ∨ k = 8 ∨ k = 10 ∨ k = 13 ∨ (k = 9 ∧ y = 1)) (H : post 1) : wpX_fits post () (nI k) y := by
  refine br_f (nI_pos (by omega)) ?_
  rcases kk with rfl | rfl | rfl | rfl | rfl | ⟨rfl, rfl⟩
  · exact br_f (by decide) (br_f (by decide) (br_f (by decide) (br_f (by decide) (br_f (by decide) (br_f (by decide) (br_f (by decide) (br_t (by decide) H)))))))
  · exact br_f (by decide) (br_f (by decide) (br_f (by decide) (br_f (by decide) (br_f (by decide) (br_f (by decide) (br_f (by decide) (br_f (by decide) (br_t (by decide) H))))))))
  · exact br_f (by decide) (br_f (by decide) (br_f (by decide) (br_f (by decide) (br_f (by decide) (br_f (by decide) (br_f (by decide) (br_f (by decide) (br_f (by decide) (br_t (by decide) H)))))))))
  · exact br_t (by decide) H
  · exact br_t (by decide) H
  · exact br_f (by decide) (br_f (by decide) (br_f (by decide) (br_f (by decide) (br_f (by decide) (br_f (by decide) (br_f (by decide) (br_f (by decide) (br_f (by decide) (br_f (by decide) (br_t (by decide) (br_f (by decide) (br_f (by decide) H))))))))))))
/-- the end of token's loop -/
theorem ca_t78 {post : Int32 → St1 → Prop} {fh fp fd fg : Int32} {a1 a2 a3 a4 a5 a6 a7 a8 a9 a10 a11 a12 a13 a14 a15 a16 a17 a19 : Nat → Int32} {a18 : Nat → Int64} {x1 x2 x4 x5 z : Int32} {n t w : Nat} (ht : t < 16) (hw : w < 3) (hz : fh + (1 - nI w) = z)
    (H : post z ((nI (t + 1)), z, fp, fd, fg, a1, a2, a3, a4, a5, (upd a6 t x1), (upd a7 t x2), (upd a8 t x4), a9, a10, a11, a12, a13, a14, a15, a16, a17, a18, a19)) : wX_token_78 post x1 x2 (nI w) (nI t) fh fp fd fg a1 a2 a3 a4 a5 a6 a7 a8 a9 a10 a11 a12 a13 a14 a15 a16 a17 a18 a19 (n + 1) x4 x5 (nI w) := by
  refine pk_le w w (fun _ => ?_) (fun z => absurd z (by omega))
  rw [nI_clamp (show t < 2 ^ 31 by omega)]
  have hv : vp_in (nI t) 16 := pk_in t 16 ht
  exact And.intro hv (nm_e (And.intro hv (nm_e (And.intro hv (nm_e (nm_r (nI_1 t) (nm_r hz H)))))))
theorem ca_tok0 {post : Int32 → St1 → Prop} {fp fd fg : Int32} {a1 a2 a3 a4 a5 a6 a7 a8 a9 a10 a11 a12 a13 a14 a15 a16 a17 a19 : Nat → Int32} {a18 : Nat → Int64} {t h j w : Nat} (ht : t < 16) (hh : h < 6) (hj : j ≤ 5) (hw : w < 100) (h0 : j = 0 → w ≤ 9) (h3 : j = 3 → w ≤ 3) (h5 : j = 5 → w ≤ 20) (h1 : j = 1 ∨ j = 2 ∨ j = 4 → w < 8)
    (H : ∀ r, post r ((nI (t + 1)), (nI (h + 1)), fp, fd, fg, a1, a2, a3, a4, a5, (upd a6 t (nI j)), (upd a7 t (nI w)), (upd a8 t 1), a9, a10, a11, a12, a13, a14, a15, a16, a17, a18, a19)) : wpX_token post ((nI t), (nI h), fp, fd, fg, a1, a2, a3, a4, a5, a6, a7, a8, a9, a10, a11, a12, a13, a14, a15, a16, a17, a18, a19) (nI j) (nI w) := by
  refine br_f (nI_pos (by omega)) (pk_lt 13 j (fun z => absurd z (by omega)) (fun _ => ?_))
  refine ca_fit hj hw h0 h3 h5 h1 (br_f (by decide) (pk_lt t 16 (fun _ => ?_) (fun z => absurd z (by omega))))
  refine pk_lt 5 j (fun z => absurd z (by omega)) (fun _ => ?_)
  refine pk_le 0 h (fun _ => ?_) (fun z => absurd z (by omega))
  refine br_t rfl (pk_lt h 6 (fun _ => ?_) (fun z => absurd z (by omega)))
  refine nm_e ⟨1, ?_⟩
  exact ca_t78 (w := 0) ht (by omega) (show nI h + (1 - nI 0) = nI (h + 1) from nI_1 h) (H _)
theorem ca_tok1 {post : Int32 → St1 → Prop} {fp fd fg : Int32} {a1 a2 a3 a4 a5 a6 a7 a8 a9 a10 a11 a12 a13 a14 a15 a16 a17 a19 : Nat → Int32} {a18 : Nat → Int64} {t h k : Nat} {y : Int32} (ht : t + 1 < 16) (hh : h < 6) (kk : k = 6 ∨ k = 7 ∨ k = 10 ∨ k = 13 ∨ (k = 9 ∧ y = 1))
    (H : ∀ r, post r ((nI (t + 1 + 1)), (nI (h + 1)), fp, fd, fg, a1, a2, a3, a4, a5, (upd a6 (t + 1) (nI k)), (upd a7 (t + 1) y), (upd a8 (t + 1) (1 + a8 t)), a9, a10, a11, a12, a13, a14, a15, a16, a17, a18, a19)) : wpX_token post ((nI (t + 1)), (nI (h + 1)), fp, fd, fg, a1, a2, a3, a4, a5, a6, a7, a8, a9, a10, a11, a12, a13, a14, a15, a16, a17, a18, a19) (nI k) y := by
  refine br_f (nI_pos (by omega)) (pk_lt 13 k (fun z => absurd z (by omega)) (fun _ => ?_))
  refine ca_fitB (kk.elim Or.inl (fun h => Or.inr (h.elim Or.inl (fun h => Or.inr (Or.inr h))))) (br_f (by decide) (pk_lt (t + 1) 16 (fun _ => ?_) (fun z => absurd z (by omega))))
  refine pk_lt 5 k (fun _ => ?_) (fun z => absurd z (by omega))
  refine pk_eq k 8 (fun z => absurd z (by omega)) (fun _ => pk_eq k 11 (fun z => absurd z (by omega)) (fun _ => pk_eq k 12 (fun z => absurd z (by omega)) (fun _ => ?_)))
  refine pk_le 1 (h + 1) (fun _ => ?_) (fun z => absurd z (by omega))
  refine br_f (by decide) (nm_r (nI_pred t) ⟨2, ?_⟩)
  have hv : vp_in (nI t) 16 := pk_in t 16 (by omega)
  refine pk_le 1 0 (fun z => absurd z (by omega)) (fun _ => And.intro hv (nm_r (e' := 1 + a8 t) (by rw [nI_clamp (by omega)]) (And.intro hv (nm_e (nm_r (e' := nI 1) (by decide) ?_)))))
  exact ca_t78 (w := 1) ht (by omega) (show nI (h + 1) + (1 - nI 1) = nI (h + 1) by rw [show (1 : Int32) - nI 1 = 0 by decide, Int32.add_zero]) (H _)
theorem ca_tok2 {post : Int32 → St1 → Prop} {fp fd fg : Int32} {a1 a2 a3 a4 a5 a6 a7 a8 a9 a10 a11 a12 a13 a14 a15 a16 a17 a19 : Nat → Int32} {a18 : Nat → Int64} {t h s : Nat} {y : Int32} (ht : t + 1 < 16) (hh : h < 6) (hs : s ≤ t) (h8 : a8 t = nI s)
    (H : ∀ r b8, post r ((nI (t + 1 + 1)), (nI (h + 1)), fp, fd, fg, a1, a2, a3, a4, a5, (upd a6 (t + 1) 8), (upd a7 (t + 1) y), b8, a9, a10, a11, a12, a13, a14, a15, a16, a17, a18, a19)) : wpX_token post ((nI (t + 1)), (nI (h + 1 + 1)), fp, fd, fg, a1, a2, a3, a4, a5, a6, a7, a8, a9, a10, a11, a12, a13, a14, a15, a16, a17, a18, a19) 8 y := by
  refine br_f (by decide) (br_f (by decide) ?_)
  refine ca_fitB (k := 8) (by omega) (br_f (by decide) (pk_lt (t + 1) 16 (fun _ => ?_) (fun z => absurd z (by omega))))
  refine br_t (by decide) (br_t (by decide) ?_)
  refine pk_le 2 (h + 1 + 1) (fun _ => ?_) (fun z => absurd z (by omega))
  refine br_f (by decide) (nm_r (nI_pred t) ⟨3, ?_⟩)
  have hv : vp_in (nI t) 16 := pk_in t 16 (by omega)
  have hv2 : vp_in (nI (t - s)) 16 := pk_in (t - s) 16 (by omega)
  refine pk_le 2 0 (fun z => absurd z (by omega)) (fun _ => And.intro hv (nm_e (And.intro hv (nm_r (e' := nI (t - s)) (by rw [nI_clamp (by omega), h8, pk_sub hs]) (nm_r (e' := nI 1) (by decide) ?_)))))
  refine pk_le 2 1 (fun z => absurd z (by omega)) (fun _ => And.intro hv2 (nm_e (And.intro hv2 (nm_e (nm_r (e' := nI 2) (by decide) ?_)))))
  refine ca_t78 (w := 2) ht (by omega) (show nI (h + 1 + 1) + (1 - nI 2) = nI (h + 1) from ?_) (H _ _)
  rw [show (1 : Int32) - nI 2 = -1 by decide]
  exact pk_m1 (h + 1)
/-- the kind, the argument and the number of tokens of a part -/
def ca_kd (c : Int32) : Int32 := (c &&& 7) - (c &&& 7) / 6 * 6
def ca_sh (c : Int32) : Int32 := (c >>> ((3 : Int32) &&& 31)) &&& 15
def ca_ar (c : Int32) : Int32 := if ca_kd c = 0 then ca_sh c - ca_sh c / 3 * 3 else if ca_kd c = 3 then ca_sh c &&& 3 else if ca_kd c = 5 then ca_sh c - ca_sh c / 6 * 6 else ca_sh c &&& 7
def ca_ln (c : Int32) : Nat := if (c >>> ((7 : Int32) &&& 31)) &&& 1 = 1 then 2 else 1
theorem ca_ln12 (c : Int32) : ca_ln c = 1 ∨ ca_ln c = 2 := by
  unfold ca_ln
  by_cases h : (c >>> ((7 : Int32) &&& 31)) &&& 1 = 1
  · rw [if_pos h]
    exact Or.inr rfl
  · rw [if_neg h]
    exact Or.inl rfl
theorem ca_kdE (c : Int32) : ∃ j, j ≤ 5 ∧ ca_kd c = nI j := by
  obtain ⟨j, hj, e⟩ := pk_andE c (m := 7) 3 (by decide)
  refine ⟨j % 6, by omega, ?_⟩
  unfold ca_kd
  rw [e]
  exact pk_rem (d := 6) (by omega) (by omega) (by omega)
theorem ca_simple {post : St1 → Prop} {fp fd fg : Int32} {a1 a2 a3 a4 a5 a6 a7 a8 a9 a10 a11 a12 a13 a14 a15 a16 a17 a19 : Nat → Int32} {a18 : Nat → Int64} {t h : Nat} {c : Int32} (ht : t < 16) (hh : h < 6)
    (H : post ((nI (t + 1)), (nI (h + 1)), fp, fd, fg, a1, a2, a3, a4, a5, (upd a6 t (ca_kd c)), (upd a7 t (ca_ar c)), (upd a8 t 1), a9, a10, a11, a12, a13, a14, a15, a16, a17, a18, a19)) : wpL_simple post ((nI t), (nI h), fp, fd, fg, a1, a2, a3, a4, a5, a6, a7, a8, a9, a10, a11, a12, a13, a14, a15, a16, a17, a18, a19) c := by
  obtain ⟨j, hj, ej⟩ := ca_kdE c
  obtain ⟨s, hs, es⟩ := pk_andE (c >>> ((3 : Int32) &&& 31)) (m := 15) 4 (by decide)
  have es' : ca_sh c = nI s := es
  have d3 : nI s - nI s / 3 * 3 = nI (s % 3) := pk_rem (d := 3) (by omega) (by omega) (by omega)
  have d6 : nI s - nI s / 6 * 6 = nI (s % 6) := pk_rem (d := 6) (by omega) (by omega) (by omega)
  have d4 : nI s &&& 3 = nI (s % 4) := pk_andN (by omega) 2 (by decide)
  have d8 : nI s &&& 7 = nI (s % 8) := pk_andN (by omega) 3 (by decide)
  unfold ca_ar at H
  rw [es', d3, d4, d6, d8, ej] at H
  refine And.intro (by decide) (nm_r (e' := nI j) ej (nm_r es ?_))
  refine pk_eq j 0 (fun e => And.intro (by decide) ?_) (fun e0 => ?_)
  · subst e
    rw [if_pos (by decide)] at H
    rw [d3]
    exact ca_tok0 ht hh (by omega) (by omega) (by omega) (by omega) (by omega) (by omega) (fun _ => H)
  rw [if_neg (show ¬ nI j = 0 from fun z => e0 ((nI_eq (b := 0) (by omega) (by omega)).mp z))] at H
  refine pk_eq j 3 (fun e => ?_) (fun e3 => ?_)
  · subst e
    rw [if_pos (by decide)] at H
    rw [d4]
    exact ca_tok0 ht hh (by omega) (by omega) (by omega) (by omega) (by omega) (by omega) (fun _ => H)
  rw [if_neg (show ¬ nI j = 3 from fun z => e3 ((nI_eq (b := 3) (by omega) (by omega)).mp z))] at H
  refine pk_eq j 5 (fun e => And.intro (by decide) ?_) (fun e5 => ?_)
  · subst e
    rw [if_pos (by decide)] at H
    rw [d6]
    exact ca_tok0 ht hh (by omega) (by omega) (by omega) (by omega) (by omega) (by omega) (fun _ => H)
  rw [if_neg (show ¬ nI j = 5 from fun z => e5 ((nI_eq (b := 5) (by omega) (by omega)).mp z))] at H
  rw [d8]
  exact ca_tok0 ht hh (by omega) (by omega) (by omega) (by omega) (by omega) (by omega) (fun _ => H)
theorem ca_lpart {post : St1 → Prop} {fp fd fg : Int32} {a1 a2 a3 a4 a5 a6 a7 a8 a9 a10 a11 a12 a13 a14 a15 a16 a17 a19 : Nat → Int32} {a18 : Nat → Int64} {t h : Nat} {c : Int32} (ht : t + 2 < 16) (hh : h < 5)
    (H : ∀ b6 b7 b8, b6 t = ca_kd c → b7 t = ca_ar c → (ca_ln c = 2 → b6 (t + 1) = 10) → b8 (t + ca_ln c - 1) = nI (ca_ln c) → (∀ q, q < t → b6 q = a6 q ∧ b7 q = a7 q) → post ((nI (t + ca_ln c)), (nI (h + 1)), fp, fd, fg, a1, a2, a3, a4, a5, b6, b7, b8, a9, a10, a11, a12, a13, a14, a15, a16, a17, a18, a19)) :
    wpL_part post ((nI t), (nI h), fp, fd, fg, a1, a2, a3, a4, a5, a6, a7, a8, a9, a10, a11, a12, a13, a14, a15, a16, a17, a18, a19) c := by
  refine ca_simple (by omega) (by omega) ?_
  unfold ca_ln at H
  refine br_c (fun e => ?_) (fun e => ?_)
  · rw [if_pos e] at H
    refine ca_tok1 (k := 10) (by omega) (by omega) (by omega) (fun r => ?_)
    refine H _ _ _ ?_ ?_ (fun _ => ?_) ?_ (fun q hq => ⟨?_, ?_⟩)
    · rw [pk_un (by omega), pk_us]
    · rw [pk_un (by omega), pk_us]
    · rw [pk_us]
      rfl
    · rw [show t + 2 - 1 = t + 1 by omega, pk_us, pk_us]
      rfl
    · rw [pk_un (by omega), pk_un (by omega)]
    · rw [pk_un (by omega), pk_un (by omega)]
  · rw [if_neg e] at H
    refine H _ _ _ pk_us pk_us (fun z => absurd z (by omega)) ?_ (fun q hq => ⟨pk_un (by omega), pk_un (by omega)⟩)
    rw [show t + 1 - 1 = t by omega, pk_us]
    rfl
/-! ===== advise ===== -/
theorem ca_a46 {post : Int32 → St1 → Prop} {fh fd fg : Int32} {a1 a2 a3 a4 a5 a6 a7 a8 a9 a10 a14 a15 a16 a17 a19 : Nat → Int32} {a18 : Nat → Int64} {y : Int32} {t p : Nat} (ht : t ≤ 16) (hp : p < 6) (c11 c12 : Nat → Int32)
    (H : ∀ b10 b11 b12 b13 b14, (∀ q, q < t → b11 (16 * p + q) = a6 q ∧ b12 (16 * p + q) = a7 q) → (∀ q, q < 16 * p → b11 q = c11 q ∧ b12 q = c12 q) →
      post (nI p) (0, 0, (nI (p + 1)), fd, fg, a1, a2, a3, a4, a5, a6, a7, a8, (upd a9 p (nI t)), b10, b11, b12, b13, b14, a15, a16, a17, a18, a19)) :
    ∀ r x, x + r = t → ∀ b11 b12 b13, (∀ q, q < x → b11 (16 * p + q) = a6 q ∧ b12 (16 * p + q) = a7 q) → (∀ q, q < 16 * p → b11 q = c11 q ∧ b12 q = c12 q) →
      wX_advise_46 post y (nI t) fh (nI p) fd fg (r + 1) (nI x) a1 a2 a3 a4 a5 a6 a7 a8 a9 a10 b11 b12 b13 a14 a15 a16 a17 a18 a19 := by
  intro r
  induction r with
  | zero =>
    intro x hx b11 b12 b13 h1 h2
    obtain rfl : x = t := by omega
    have hv : vp_in (nI p) 6 := pk_in p 6 hp
    refine pk_le x x (fun _ => ?_) (fun z => absurd z (by omega))
    rw [nI_clamp (show p < 2 ^ 31 by omega)]
    refine And.intro hv (nm_e (And.intro hv (nm_e (And.intro hv (nm_e (nm_r (nI_1 p) ?_))))))
    have h := H (upd a10 p y) b11 b12 b13 (upd a14 p 0) h1 h2
    rw [← nI_pred p] at h
    exact h
  | succ r ih =>
    intro x hx b11 b12 b13 h1 h2
    have hv : vp_in (nI x) 16 := pk_in x 16 (by omega)
    have e : (16 : Int32) * nI p + nI x = nI (16 * p + x) := ca_16 p x
    have hw : vp_in ((16 : Int32) * nI p + nI x) 96 := pk_in (16 * p + x) 96 (by omega) e
    refine pk_le t x (fun z => absurd z (by omega)) (fun _ => ?_)
    refine And.intro hv (And.intro hw (nm_e (And.intro hv (And.intro hw (nm_e (And.intro hv (And.intro hw (nm_e (nm_r (nI_1 x) (ih (x + 1) (by omega) _ _ _ (fun q hq => ?_) (fun q hq => ?_)))))))))))
    · rw [e, nI_clamp (show 16 * p + x < 2 ^ 31 by omega), nI_clamp (show x < 2 ^ 31 by omega)]
      by_cases z : q = x
      · subst z
        exact ⟨pk_us, pk_us⟩
      · rw [pk_un (by omega), pk_un (by omega)]
        exact h1 q (by omega)
    · rw [e, nI_clamp (show 16 * p + x < 2 ^ 31 by omega)]
      rw [pk_un (by omega), pk_un (by omega)]
      exact h2 q hq
theorem ca_advise {post : Int32 → St1 → Prop} {fg : Int32} {a1 a2 a3 a4 a5 a6 a7 a8 a9 a10 a11 a12 a13 a14 a15 a16 a17 a19 : Nat → Int32} {a18 : Nat → Int64} {w t p : Nat} (hw : w < 2) (ht : t ≤ 16) (hp : p < 6)
    (H : ∀ b10 b11 b12 b13 b14, (∀ q, q < t → b11 (16 * p + q) = a6 q ∧ b12 (16 * p + q) = a7 q) → (∀ q, q < 16 * p → b11 q = a11 q ∧ b12 q = a12 q) →
      post (nI p) (0, 0, (nI (p + 1)), 0, fg, a1, a2, a3, a4, a5, a6, a7, a8, (upd a9 p (nI t)), b10, b11, b12, b13, b14, a15, a16, a17, a18, a19)) :
    wpX_advise post ((nI t), 1, (nI p), 0, fg, a1, a2, a3, a4, a5, a6, a7, a8, a9, a10, a11, a12, a13, a14, a15, a16, a17, a18, a19) (nI w) := by
  refine br_f (nI_pos (by omega)) (pk_le w 1 (fun _ => ?_) (fun z => absurd z (by omega)))
  refine br_t rfl (pk_lt p 6 (fun _ => ?_) (fun z => absurd z (by omega)))
  refine br_t (by decide) ⟨t + 1, ?_⟩
  exact ca_a46 ht hp a11 a12 H t 0 (by omega) a11 a12 a13 (fun q hq => absurd hq (by omega)) (fun q hq => ⟨rfl, rfl⟩)
end
section
/-! ===== the law's setup ===== -/
/-- a parent is in range or below 0 -/
def ca_P (a1 : Nat → Int32) : Prop := ∀ k, 0 ≤ a1 k → vp_in (a1 k) 8
theorem ca_P_u {a1 : Nat → Int32} {k : Nat} {y : Int32} (h : ca_P a1) (hy : 0 ≤ y → vp_in y 8) : ca_P (upd a1 k y) := by
  intro q
  by_cases e : q = k
  · rw [e, pk_us]
    exact hy
  · rw [pk_un e]
    exact h q
theorem ca_lt8 {y : Int32} {k : Nat} (hk : k ≤ 8) (h0 : 0 ≤ y) (h : y < nI k) : vp_in y 8 := by
  rw [vp_in_iff]
  rw [Int32.le_iff_toInt_le] at h0
  rw [Int32.lt_iff_toInt_lt, nI_toInt (by omega)] at h
  have e : (0 : Int32).toInt = 0 := by decide
  omega
theorem ca_i158 {post : St1 → Prop} {mc ms kc ks : Nat} {ft fh fp fd fg : Int32} {a3 a4 a5 a6 a7 a8 a9 a10 a11 a12 a13 a14 a15 a16 a17 a19 : Nat → Int32} {a18 : Nat → Int64} (H : ∀ b1 b2, ca_P b1 → post (ft, fh, fp, fd, fg, b1, b2, a3, a4, a5, a6, a7, a8, a9, a10, a11, a12, a13, a14, a15, a16, a17, a18, a19)) :
    ∀ r x, x + r = 8 → ∀ b1 b2, ca_P b1 → wX_init_158 post mc ms kc ks ft fh fp fd fg (r + 1) (nI x) b1 b2 a3 a4 a5 a6 a7 a8 a9 a10 a11 a12 a13 a14 a15 a16 a17 a18 a19 := by
  intro r
  induction r with
  | zero =>
    intro x hx b1 b2 hP
    obtain rfl : x = 8 := by omega
    exact pk_le 8 8 (fun _ => H b1 b2 hP) (fun z => absurd z (by omega))
  | succ r ih =>
    intro x hx b1 b2 hP
    have hv : vp_in (nI x) 8 := pk_in x 8 (by omega)
    refine pk_le 8 x (fun z => absurd z (by omega)) (fun _ => And.intro hv (nm_e (And.intro hv (nm_e (nm_r (nI_1 x) (ih (x + 1) (by omega) _ _ (ca_P_u hP (fun z => absurd z (by decide)))))))))
theorem ca_d49 {post : Int32 → St1 → Prop} {x3 : Int32} {ft fh fp fd fg : Int32} {a1 a3 a4 a5 a6 a7 a8 a9 a10 a11 a12 a13 a14 a15 a16 a17 a19 : Nat → Int32} {a18 : Nat → Int64} (hP : ca_P a1) (H : ∀ b2, post x3 (ft, fh, fp, fd, fg, a1, b2, a3, a4, a5, a6, a7, a8, a9, a10, a11, a12, a13, a14, a15, a16, a17, a18, a19)) :
    ∀ r x, x + r = 8 → ∀ b2, wX_derive_49 post x3 ft fh fp fd fg (r + 1) (nI x) a1 b2 a3 a4 a5 a6 a7 a8 a9 a10 a11 a12 a13 a14 a15 a16 a17 a18 a19 := by
  intro r
  induction r with
  | zero =>
    intro x hx b2
    obtain rfl : x = 8 := by omega
    exact pk_le 8 8 (fun _ => H b2) (fun z => absurd z (by omega))
  | succ r ih =>
    intro x hx b2
    have hv : vp_in (nI x) 8 := pk_in x 8 (by omega)
    refine pk_le 8 x (fun z => absurd z (by omega)) (fun _ => And.intro hv (br_c (fun h => ?_) (fun h => ?_)))
    · exact And.intro hv (And.intro (hP _ h) (And.intro hv (nm_e (nm_r (nI_1 x) (ih (x + 1) (by omega) _)))))
    · exact And.intro hv (nm_e (nm_r (nI_1 x) (ih (x + 1) (by omega) _)))
theorem ca_derive {post : Int32 → St1 → Prop} {ft fh fp fd fg : Int32} {a1 a2 a3 a4 a5 a6 a7 a8 a9 a10 a11 a12 a13 a14 a15 a16 a17 a19 : Nat → Int32} {a18 : Nat → Int64} {k : Nat} {y : Int32} (hk : k < 8) (hP : ca_P a1) (H : ∀ r b1 b2, ca_P b1 → post r (ft, fh, fp, fd, fg, b1, b2, a3, a4, a5, a6, a7, a8, a9, a10, a11, a12, a13, a14, a15, a16, a17, a18, a19)) : wpX_derive post (ft, fh, fp, fd, fg, a1, a2, a3, a4, a5, a6, a7, a8, a9, a10, a11, a12, a13, a14, a15, a16, a17, a18, a19) (nI k) y := by
  have hv : vp_in (nI k) 8 := pk_in k 8 hk
  refine br_f (nI_pos (by omega)) (pk_le 8 k (fun z => absurd z (by omega)) (fun _ => br_c (fun _ => H _ _ _ hP) (fun _ => br_c (fun hlt => br_c (fun _ => ?_) (fun _ => H _ _ _ hP)) (fun _ => H _ _ _ hP))))
  refine And.intro hv (nm_e (And.intro hv (nm_e ⟨9, ?_⟩)))
  have hP' : ca_P (upd a1 (nI k).toNatClampNeg y) := ca_P_u hP (fun h0 => ca_lt8 (by omega) h0 hlt)
  exact ca_d49 hP' (fun b2 => H _ _ b2 hP') 8 0 (by omega) a2
theorem ca_define {post : Int32 → St1 → Prop} {ft fh fp fd fg : Int32} {a1 a2 a3 a4 a5 a6 a7 a8 a9 a10 a11 a12 a13 a14 a15 a16 a17 a19 : Nat → Int32} {a18 : Nat → Int64} {k : Nat} {y1 y2 y3 : Int32} (hk : k < 16) (h3 : ∀ m, vp_in (a3 m) 8) (H : ∀ r b3 b4 b5, (∀ m, vp_in (b3 m) 8) → post r (ft, fh, fp, fd, fg, a1, a2, b3, b4, b5, a6, a7, a8, a9, a10, a11, a12, a13, a14, a15, a16, a17, a18, a19)) : wpX_define post (ft, fh, fp, fd, fg, a1, a2, a3, a4, a5, a6, a7, a8, a9, a10, a11, a12, a13, a14, a15, a16, a17, a18, a19) (nI k) y1 y2 y3 := by
  have hv : vp_in (nI k) 16 := pk_in k 16 hk
  unfold wpX_define
  refine ca_isM hk ?_
  refine br_f (by decide) (br_c (fun _ => H _ _ _ _ h3) (fun g1 => br_c (fun _ => H _ _ _ _ h3) (fun g2 => br_c (fun _ => H _ _ _ _ h3) (fun _ => br_c (fun _ => H _ _ _ _ h3) (fun _ => br_c (fun _ => H _ _ _ _ h3) (fun _ => br_c (fun _ => br_c (fun _ => ?_) (fun _ => H _ _ _ _ h3)) (fun _ => H _ _ _ _ h3)))))))
  refine And.intro hv (nm_e (And.intro hv (nm_e (And.intro hv (nm_e (H _ _ _ _ (fun m => ?_)))))))
  by_cases e : m = (nI k).toNatClampNeg
  · rw [e, pk_us, vp_in_iff]
    rw [Int32.lt_iff_toInt_lt] at g1
    rw [Int32.le_iff_toInt_le] at g2
    have e0 : (0 : Int32).toInt = 0 := by decide
    have e8 : (8 : Int32).toInt = 8 := by decide
    omega
  · rw [pk_un e]
    exact h3 m
/-- the draft of piece p -/
def ca_dr (lf lg : Nat) (kf af kg : Int32) (a6 a7 : Nat → Int32) (p : Nat) : Prop :=
  (p < 5 → a6 0 = kf ∧ a7 0 = af ∧ (lf = 2 → a6 (0 + 1) = 10)) ∧
  (p = 5 → a6 0 = kg ∧ (lg = 2 → a6 (0 + 1) = 10) ∧ a6 lg = kf ∧ a7 lg = af ∧ (lf = 2 → a6 (lg + 1) = 10)) ∧
  (0 < p → a6 (ca_ix lf lg p) = nI (ca_op p) ∧ a7 (ca_ix lf lg p) = 1)
theorem ca_dr_pc {lf lg p : Nat} {kf af kg : Int32} {a6 a7 a9 b11 b12 : Nat → Int32} (hlf : lf = 1 ∨ lf = 2) (hlg : lg = 1 ∨ lg = 2) (hp : p < 6) (h : ca_dr lf lg kf af kg a6 a7 p)
    (g : ∀ q, q < ca_ix lf lg p + 1 → b11 (16 * p + q) = a6 q ∧ b12 (16 * p + q) = a7 q) : ca_pc lf lg kf af kg (upd a9 p (nI (ca_ix lf lg p + 1))) b11 b12 p := by
  refine ⟨pk_us, fun h5 => ?_, fun h5 => ?_, fun h0 => ?_⟩
  · obtain ⟨e1, e2, e3⟩ := h.1 h5
    refine ⟨(g 0 (by omega)).1.trans e1, (g 0 (by omega)).2.trans e2, fun z => (g (0 + 1) ?_).1.trans (e3 z)⟩
    subst z
    unfold ca_ix
    by_cases z : p = 0
    · rw [if_pos z]
      omega
    · rw [if_neg z, if_neg (by omega)]
      omega
  · subst h5
    have ix : ca_ix lf lg 5 = lg + lf := rfl
    rw [ix] at g
    obtain ⟨e1, e2, e3, e4, e5⟩ := h.2.1 rfl
    exact ⟨(g 0 (by omega)).1.trans e1, fun z => (g (0 + 1) (by omega)).1.trans (e2 z), (g lg (by omega)).1.trans e3, (g lg (by omega)).2.trans e4, fun z => (g (lg + 1) (by omega)).1.trans (e5 z)⟩
  · obtain ⟨e1, e2⟩ := h.2.2 h0
    exact ⟨(g _ (by omega)).1.trans e1, (g _ (by omega)).2.trans e2⟩
theorem ca_pc_keep {lf lg p q : Nat} {kf af kg z : Int32} {a9 a11 a12 b11 b12 : Nat → Int32} (hlf : lf = 1 ∨ lf = 2) (hlg : lg = 1 ∨ lg = 2) (hq : q < p) (h : ca_pc lf lg kf af kg a9 a11 a12 q)
    (g : ∀ s, s < 16 * p → b11 s = a11 s ∧ b12 s = a12 s) : ca_pc lf lg kf af kg (upd a9 p z) b11 b12 q := by
  have hx := ca_ix_lt (p := q) hlf hlg
  have g1 : ∀ s, s < 16 → b11 (16 * q + s) = a11 (16 * q + s) := fun s hs => (g _ (by omega)).1
  have g2 : ∀ s, s < 16 → b12 (16 * q + s) = a12 (16 * q + s) := fun s hs => (g _ (by omega)).2
  unfold ca_pc at h ⊢
  rw [pk_un (by omega), g1 0 (by omega), g1 (0 + 1) (by omega), g1 lg (by omega), g1 (lg + 1) (by omega), g1 (ca_ix lf lg q) (by omega), g2 0 (by omega), g2 lg (by omega), g2 (ca_ix lf lg q) (by omega)]
  exact h
/-- what the loop over the pieces keeps -/
def ca_I (lf lg : Nat) (kf af kg : Int32) (a3 a9 a11 a12 : Nat → Int32) (p : Nat) : Prop := (∀ m, vp_in (a3 m) 8) ∧ ∀ q, q < p → ca_pc lf lg kf af kg a9 a11 a12 q
theorem ca_197 {post : Int32 → Prop} {L : Nat} {xs : Nat → Int32} {J : ca_T6} {kc ks : Nat} {f g2 : Int32} {fg : Int32} {a1 a2 a3 a4 a5 a6 a7 a8 a9 a10 a11 a12 a13 a14 a15 a16 a17 a19 : Nat → Int32} {a18 : Nat → Int64} {lf lg p : Nat} {kf af kg : Int32} (hlf : lf = 1 ∨ lf = 2) (hlg : lg = 1 ∨ lg = 2) (hp : p < 6)
    (I : ca_I lf lg kf af kg a3 a9 a11 a12 p) (D : ca_dr lf lg kf af kg a6 a7 p)
    (HJ : ∀ b9 b10 b11 b12 b13 b14, ca_I lf lg kf af kg a3 b9 b11 b12 (p + 1) → J (nI (p + 1)) 0 0 (nI (p + 1)) 0 fg a1 a2 a3 a4 a5 a6 a7 a8 b9 b10 b11 b12 b13 b14 a15 a16 a17 a18 a19) :
    wL_law_197 post L xs J f g2 (nI p) kc ks (nI (ca_ix lf lg p + 1)) 1 (nI p) 0 fg a1 a2 a3 a4 a5 a6 a7 a8 a9 a10 a11 a12 a13 a14 a15 a16 a17 a18 a19 := by
  have hx := ca_ix_lt (p := p) hlf hlg
  obtain ⟨w, hw, ew⟩ := pk_andE (f >>> ((8 + nI p) &&& 31)) (m := 1) 1 (by decide)
  unfold wL_law_197
  rw [ew]
  refine ca_advise (by omega) (by omega) hp (fun b10 b11 b12 b13 b14 h1 h2 => ?_)
  refine br_t rfl (nm_r (nI_1 p) (HJ _ _ _ _ _ _ ⟨I.1, fun q hq => ?_⟩))
  by_cases z : q = p
  · subst z
    exact ca_dr_pc hlf hlg hp D h1
  · exact ca_pc_keep hlf hlg (by omega) (I.2 q (by omega)) h2
/-- pieces 1 to 4: the token of the piece -/
theorem ca_192 {post : Int32 → Prop} {L : Nat} {xs : Nat → Int32} {J : ca_T6} {kc ks : Nat} {f g2 : Int32} {fg : Int32} {a1 a2 a3 a4 a5 a6 a7 a8 a9 a10 a11 a12 a13 a14 a15 a16 a17 a19 : Nat → Int32} {a18 : Nat → Int64} {lf lg p : Nat} {kf af kg : Int32} (hlf : lf = 1 ∨ lf = 2) (hlg : lg = 1 ∨ lg = 2) (hp : p < 5) (hp0 : 0 < p)
    (I : ca_I lf lg kf af kg a3 a9 a11 a12 p) (e1 : a6 0 = kf) (e2 : a7 0 = af) (e3 : lf = 2 → a6 (0 + 1) = 10)
    (HJ : ∀ b6 b7 b8 b9 b10 b11 b12 b13 b14, ca_I lf lg kf af kg a3 b9 b11 b12 (p + 1) → J (nI (p + 1)) 0 0 (nI (p + 1)) 0 fg a1 a2 a3 a4 a5 b6 b7 b8 b9 b10 b11 b12 b13 b14 a15 a16 a17 a18 a19) :
    wL_law_192 post L xs J f g2 (nI p) (nI (ca_op p)) kc ks (nI lf) 1 (nI p) 0 fg a1 a2 a3 a4 a5 a6 a7 a8 a9 a10 a11 a12 a13 a14 a15 a16 a17 a18 a19 := by
  have ix : ca_ix lf lg p = lf := by unfold ca_ix; rw [if_neg (by omega), if_neg (by omega)]
  obtain ⟨t, ht⟩ : ∃ t, lf = t + 1 := ⟨lf - 1, by omega⟩
  have K : ∀ b8, wL_law_197 post L xs J f g2 (nI p) kc ks (nI (t + 1 + 1)) 1 (nI p) 0 fg a1 a2 a3 a4 a5 (upd a6 (t + 1) (nI (ca_op p))) (upd a7 (t + 1) 1) b8 a9 a10 a11 a12 a13 a14 a15 a16 a17 a18 a19 := by
    intro b8
    have k := ca_197 (post := post) (L := L) (xs := xs) (J := J) (kc := kc) (ks := ks) (f := f) (g2 := g2) (fg := fg) (a1 := a1) (a2 := a2) (a4 := a4) (a5 := a5) (a6 := upd a6 (t + 1) (nI (ca_op p))) (a7 := upd a7 (t + 1) 1) (a8 := b8) (a10 := a10) (a13 := a13) (a14 := a14) (a15 := a15) (a16 := a16) (a17 := a17) (a18 := a18) (a19 := a19)
      hlf hlg (show p < 6 by omega) I ⟨fun _ => ⟨by rw [pk_un (by omega)]; exact e1, by rw [pk_un (by omega)]; exact e2, fun z => by rw [pk_un (by omega)]; exact e3 z⟩, fun z => absurd z (by omega), fun _ => ⟨by rw [ix, ht, pk_us], by rw [ix, ht, pk_us]⟩⟩ (fun b9 b10 b11 b12 b13 b14 => HJ _ _ _ b9 b10 b11 b12 b13 b14)
    rw [ix, ht] at k
    exact k
  unfold wL_law_192
  rw [ht]
  refine ca_tok1 (h := 0) (by omega) (by omega) ?_ (fun r => K _)
  unfold ca_op
  rcases (show p = 1 ∨ p = 2 ∨ p = 3 ∨ p = 4 by omega) with rfl | rfl | rfl | rfl <;> decide
theorem ca_135 {post : Int32 → Prop} {L : Nat} {xs : Nat → Int32} {J : ca_T6} {kc ks : Nat} {f g2 : Int32} {fg : Int32} {a1 a2 a3 a4 a5 a6 a7 a8 a9 a10 a11 a12 a13 a14 a15 a16 a17 a19 : Nat → Int32} {a18 : Nat → Int64} {lg p : Nat} {kg : Int32} (hlg : lg = 1 ∨ lg = 2) (hp : p < 5)
    (I : ca_I (ca_ln f) lg (ca_kd f) (ca_ar f) kg a3 a9 a11 a12 p)
    (HJ : ∀ b6 b7 b8 b9 b10 b11 b12 b13 b14, ca_I (ca_ln f) lg (ca_kd f) (ca_ar f) kg a3 b9 b11 b12 (p + 1) → J (nI (p + 1)) 0 0 (nI (p + 1)) 0 fg a1 a2 a3 a4 a5 b6 b7 b8 b9 b10 b11 b12 b13 b14 a15 a16 a17 a18 a19) :
    wL_law_135 post L xs J f g2 (nI p) kc ks 0 0 (nI p) 0 fg a1 a2 a3 a4 a5 a6 a7 a8 a9 a10 a11 a12 a13 a14 a15 a16 a17 a18 a19 := by
  have hlf := ca_ln12 f
  refine ca_lpart (t := 0) (h := 0) (by omega) (by omega) (fun b6 b7 b8 e1 e2 e3 _ _ => ?_)
  rw [Nat.zero_add]
  refine pk_le p 0 (fun z => ?_) (fun z => ?_)
  · obtain rfl : p = 0 := by omega
    have ix : ca_ix (ca_ln f) lg 0 + 1 = ca_ln f := by
      show ca_ln f - 1 + 1 = ca_ln f
      omega
    have k := ca_197 (post := post) (L := L) (xs := xs) (J := J) (kc := kc) (ks := ks) (f := f) (g2 := g2) (fg := fg) (a1 := a1) (a2 := a2) (a4 := a4) (a5 := a5) (a6 := b6) (a7 := b7) (a8 := b8) (a10 := a10) (a13 := a13) (a14 := a14) (a15 := a15) (a16 := a16) (a17 := a17) (a18 := a18) (a19 := a19)
      hlf hlg (show 0 < 6 by omega) I ⟨fun _ => ⟨e1, e2, e3⟩, fun z => absurd z (by omega), fun z => absurd z (by omega)⟩ (fun b9 b10 b11 b12 b13 b14 => HJ _ _ _ b9 b10 b11 b12 b13 b14)
    rw [ix] at k
    exact k
  · have k := ca_192 (post := post) (L := L) (xs := xs) (J := J) (kc := kc) (ks := ks) (f := f) (g2 := g2) (fg := fg) (a1 := a1) (a2 := a2) (a4 := a4) (a5 := a5) (a6 := b6) (a7 := b7) (a8 := b8) (a10 := a10) (a13 := a13) (a14 := a14) (a15 := a15) (a16 := a16) (a17 := a17) (a18 := a18) (a19 := a19)
      hlf hlg hp z I e1 e2 e3 HJ
    refine pk_eq p 1 (fun e => by subst e; exact k) (fun n1 => pk_eq p 2 (fun e => by subst e; exact k) (fun n2 => pk_eq p 3 (fun e => by subst e; exact k) (fun n3 => pk_eq p 4 (fun e => by subst e; exact k) (fun n4 => absurd hp (by omega)))))
theorem ca_135g {post : Int32 → Prop} {L : Nat} {xs : Nat → Int32} {J : ca_T6} {kc ks : Nat} {f g2 : Int32} {fg : Int32} {a1 a2 a3 a4 a5 a6 a7 a8 a9 a10 a11 a12 a13 a14 a15 a16 a17 a19 : Nat → Int32} {a18 : Nat → Int64}
    (I : ca_I (ca_ln f) (ca_ln g2) (ca_kd f) (ca_ar f) (ca_kd g2) a3 a9 a11 a12 5)
    (HJ : ∀ b6 b7 b8 b9 b10 b11 b12 b13 b14, ca_I (ca_ln f) (ca_ln g2) (ca_kd f) (ca_ar f) (ca_kd g2) a3 b9 b11 b12 (5 + 1) → J (nI (5 + 1)) 0 0 (nI (5 + 1)) 0 fg a1 a2 a3 a4 a5 b6 b7 b8 b9 b10 b11 b12 b13 b14 a15 a16 a17 a18 a19)
    (e1 : a6 0 = ca_kd g2) (e3 : ca_ln g2 = 2 → a6 (0 + 1) = 10) :
    wL_law_135 post L xs J f g2 (nI 5) kc ks (nI (ca_ln g2)) (nI 1) (nI 5) 0 fg a1 a2 a3 a4 a5 a6 a7 a8 a9 a10 a11 a12 a13 a14 a15 a16 a17 a18 a19 := by
  have hlf := ca_ln12 f
  have hlg := ca_ln12 g2
  refine ca_lpart (h := 1) (by omega) (by omega) (fun b6 b7 b8 f1 f2 f3 f4 f5 => ?_)
  refine br_f (by decide) (br_f (by decide) (br_f (by decide) (br_f (by decide) (br_f (by decide) ?_))))
  have ix : ca_ix (ca_ln f) (ca_ln g2) 5 = ca_ln g2 + ca_ln f := rfl
  obtain ⟨t, ht⟩ : ∃ t, ca_ln g2 + ca_ln f = t + 1 := ⟨ca_ln g2 + ca_ln f - 1, by omega⟩
  have K : ∀ c8, wL_law_197 post L xs J f g2 (nI 5) kc ks (nI (t + 1 + 1)) 1 (nI 5) 0 fg a1 a2 a3 a4 a5 (upd b6 (t + 1) 8) (upd b7 (t + 1) 1) c8 a9 a10 a11 a12 a13 a14 a15 a16 a17 a18 a19 := by
    intro c8
    have k := ca_197 (post := post) (L := L) (xs := xs) (J := J) (kc := kc) (ks := ks) (f := f) (g2 := g2) (fg := fg) (a1 := a1) (a2 := a2) (a4 := a4) (a5 := a5) (a6 := upd b6 (t + 1) 8) (a7 := upd b7 (t + 1) 1) (a8 := c8) (a10 := a10) (a13 := a13) (a14 := a14) (a15 := a15) (a16 := a16) (a17 := a17) (a18 := a18) (a19 := a19)
      hlf hlg (show 5 < 6 by omega) I ⟨fun z => absurd z (by omega), fun _ => ⟨by rw [pk_un (by omega), (f5 0 (by omega)).1]; exact e1, fun z => by rw [pk_un (by omega), (f5 (0 + 1) (by omega)).1]; exact e3 z, by rw [pk_un (by omega)]; exact f1, by rw [pk_un (by omega)]; exact f2, fun z => by rw [pk_un (by omega)]; exact f3 z⟩, fun _ => ⟨by rw [ix, ht, pk_us]; rfl, by rw [ix, ht, pk_us]⟩⟩ (fun b9 b10 b11 b12 b13 b14 => HJ _ _ _ b9 b10 b11 b12 b13 b14)
    rw [ix, ht] at k
    exact k
  unfold wL_law_192
  rw [ht] at f4 ⊢
  rw [Nat.add_sub_cancel] at f4
  exact ca_tok2 (h := 0) (by omega) (by omega) (by omega) f4 (fun r c8 => K c8)
theorem ca_117 {post : Int32 → Prop} {L : Nat} {xs : Nat → Int32} {kc ks : Nat} {f g2 : Int32} {fg : Int32} {a1 a2 a3 a4 a5 a15 a16 a17 a19 : Nat → Int32} {a18 : Nat → Int64}
    (H : ∀ b6 b7 b8 b9 b10 b11 b12 b13 b14, ca_I (ca_ln f) (ca_ln g2) (ca_kd f) (ca_ar f) (ca_kd g2) a3 b9 b11 b12 6 → ∃ n, wL_law_227 post L xs kc ks n 11 0 0 (nI 6) 0 fg a1 a2 a3 a4 a5 b6 b7 b8 b9 b10 b11 b12 b13 b14 a15 a16 a17 a18 a19) :
    ∀ r p, p + r = 6 → ∀ b6 b7 b8 b9 b10 b11 b12 b13 b14, ca_I (ca_ln f) (ca_ln g2) (ca_kd f) (ca_ar f) (ca_kd g2) a3 b9 b11 b12 p →
      wL_law_117 post L xs f g2 kc ks (r + 1) (nI p) 0 0 (nI p) 0 fg a1 a2 a3 a4 a5 b6 b7 b8 b9 b10 b11 b12 b13 b14 a15 a16 a17 a18 a19 := by
  intro r
  induction r with
  | zero =>
    intro p hp b6 b7 b8 b9 b10 b11 b12 b13 b14 I
    obtain rfl : p = 6 := by omega
    exact pk_le 6 6 (fun _ => H b6 b7 b8 b9 b10 b11 b12 b13 b14 I) (fun z => absurd z (by omega))
  | succ r ih =>
    intro p hp b6 b7 b8 b9 b10 b11 b12 b13 b14 I
    refine pk_le 6 p (fun z => absurd z (by omega)) (fun _ => pk_eq p 5 (fun e => ?_) (fun e => ?_))
    · subst e
      refine ca_lpart (t := 0) (h := 0) (by omega) (by omega) (fun c6 c7 c8 e1 e2 e3 e4 e5 => ?_)
      rw [Nat.zero_add]
      exact ca_135g I (fun d6 d7 d8 d9 d10 d11 d12 d13 d14 I' => ih (5 + 1) (by omega) d6 d7 d8 d9 d10 d11 d12 d13 d14 I') e1 e3
    · exact ca_135 (ca_ln12 g2) (by omega) I (fun d6 d7 d8 d9 d10 d11 d12 d13 d14 I' => ih (p + 1) (by omega) d6 d7 d8 d9 d10 d11 d12 d13 d14 I')
end
section
/-! ===== the loops over classes and methods, and the owed statement ===== -/
theorem ca_48 {post : Int32 → Prop} {L : Nat} {xs : Nat → Int32} {kc ks : Nat} (hL : L ≤ 260) {a1 a2 a6 a7 a8 a9 a10 a11 a12 a13 a14 a15 a16 a17 a19 : Nat → Int32} {a18 : Nat → Int64}
    (H : ∀ b3 b4 b5, (∀ m, vp_in (b3 m) 8) → ∀ f g2, ∃ n, wL_law_117 post L xs f g2 kc ks n 0 0 0 0 0 0 a1 a2 b3 b4 b5 a6 a7 a8 a9 a10 a11 a12 a13 a14 a15 a16 a17 a18 a19) :
    ∀ r x, x + r = 16 → ∀ b3 b4 b5, (∀ m, vp_in (b3 m) 8) → wL_law_48 post L xs kc ks (r + 1) (nI x) 0 0 0 0 0 a1 a2 b3 b4 b5 a6 a7 a8 a9 a10 a11 a12 a13 a14 a15 a16 a17 a18 a19 := by
  intro r
  induction r with
  | zero =>
    intro x hx b3 b4 b5 h3
    obtain rfl : x = 16 := by omega
    exact pk_le 16 16 (fun _ => ca_cel hL 9 (by omega) (fun f => ca_cel hL 10 (by omega) (fun g2 => H b3 b4 b5 h3 f g2))) (fun z => absurd z (by omega))
  | succ r ih =>
    intro x hx b3 b4 b5 h3
    refine pk_le 16 x (fun z => absurd z (by omega)) (fun _ => ?_)
    have e : (1 : Int32) + (nI x &&& 7) = nI (1 + x % 8) := by
      rw [pk_andN (by omega) 3 (by decide), ← nI_add]
      rfl
    rw [e]
    refine ca_cel hL _ (by omega) (fun c => nm_e (And.intro (by decide) ?_))
    exact ca_define (by omega) h3 (fun r c3 c4 c5 h => nm_r (nI_1 x) (ih (x + 1) (by omega) c3 c4 c5 h))
theorem ca_10 {post : Int32 → Prop} {L : Nat} {xs : Nat → Int32} {kc ks : Nat} (hL : L ≤ 260) {a3 a4 a5 a6 a7 a8 a9 a10 a11 a12 a13 a14 a15 a16 a17 a19 : Nat → Int32} {a18 : Nat → Int64}
    (H : ∀ b1 b2, ∃ n, wL_law_48 post L xs kc ks n 0 0 0 0 0 0 b1 b2 a3 a4 a5 a6 a7 a8 a9 a10 a11 a12 a13 a14 a15 a16 a17 a18 a19) :
    ∀ r x, x + r = 8 → ∀ b1 b2, ca_P b1 → wL_law_10 post L xs kc ks (r + 1) (nI x) 0 0 0 0 0 b1 b2 a3 a4 a5 a6 a7 a8 a9 a10 a11 a12 a13 a14 a15 a16 a17 a18 a19 := by
  intro r
  induction r with
  | zero =>
    intro x hx b1 b2 hP
    obtain rfl : x = 8 := by omega
    exact pk_le 8 8 (fun _ => H b1 b2) (fun z => absurd z (by omega))
  | succ r ih =>
    intro x hx b1 b2 hP
    refine pk_le 8 x (fun z => absurd z (by omega)) (fun _ => ?_)
    refine ca_cel hL 0 (by omega) (fun c => And.intro (by rw [nI_1]; exact nI_ne0 (by omega) (by omega)) ?_)
    exact ca_derive (by omega) hP (fun r c1 c2 h => nm_r (nI_1 x) (ih (x + 1) (by omega) c1 c2 h))
theorem i_vc (xs : Nat → Int32) (L : Nat) (hL : L ≤ 260) : wpL_law (fun r => r = 1) L xs := by
  refine ⟨19, 881, by omega, by omega, ?_⟩
  unfold wpX_init
  iterate 38 refine And.intro (by decide) ?_
  refine ⟨9, ca_i158 (fun b1 b2 hP => ?_) 8 0 (by omega) _ _ (fun _ _ => vp_in_iff.mpr (by decide))⟩
  refine ⟨8, ca_10 hL (fun c1 c2 => ?_) 7 1 (by omega) b1 b2 hP⟩
  refine ⟨17, ca_48 hL (fun b3 b4 b5 h3 f g2 => ?_) 16 0 (by omega) _ _ _ (fun _ => vp_in_iff.mpr (by decide))⟩
  refine ⟨7, ca_117 (fun b6 b7 b8 b9 b10 b11 b12 b13 b14 I => ?_) 6 0 (by omega) _ _ _ _ _ _ _ _ _ ⟨h3, fun q hq => absurd hq (by omega)⟩⟩
  have C : ca_cfg (ca_ln f) (ca_ln g2) (ca_kd f) (ca_ar f) (ca_kd g2) b3 b9 b11 b12 := ⟨ca_ln12 f, ca_ln12 g2, ca_kdE f, ca_kdE g2, I.1, I.2⟩
  exact ⟨50, ca_m227 (post := fun r => r = 1) hL rfl C 49 11 (by omega) (by omega) 0 0 _ _ _ _ _ _ (by omega) (by omega) ⟨fun i hi => absurd hi (by omega), fun i p hi => absurd hi (by omega)⟩⟩
end
