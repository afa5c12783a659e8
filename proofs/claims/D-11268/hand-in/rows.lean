section
/-! ===== bits of small numbers (nx_: rows of BITS.to-paste) ===== -/
theorem nx_and (a b : Nat) : nI a &&& nI b = nI (a &&& b) := by
  apply Int32.toBitVec_inj.1
  show BitVec.ofNat 32 a &&& BitVec.ofNat 32 b = BitVec.ofNat 32 (a &&& b)
  apply BitVec.eq_of_getLsbD_eq
  intro i hi
  simp [hi]
theorem nx_xor (a b : Nat) : nI a ^^^ nI b = nI (a ^^^ b) := by
  apply Int32.toBitVec_inj.1
  show BitVec.ofNat 32 a ^^^ BitVec.ofNat 32 b = BitVec.ofNat 32 (a ^^^ b)
  apply BitVec.eq_of_getLsbD_eq
  intro i hi
  simp [hi]
theorem nx_cnt : ∀ j : Fin 32, (UInt32.ofNat j.val &&& Int32.toUInt32 31).toNat % 32 = j.val := by decide +kernel
theorem nx_ush {k j : Nat} (hk : k < 65536) (hj : j < 32) : ((nI k).toUInt32 >>> ((nI j).toUInt32 &&& Int32.toUInt32 31)).toInt32 = nI (k >>> j) := by
  have hs : k >>> j ≤ k := by
    rw [Nat.shiftRight_eq_div_pow]
    exact Nat.div_le_self _ _
  have e2 : UInt32.ofNat k >>> (UInt32.ofNat j &&& Int32.toUInt32 31) = UInt32.ofNat (k >>> j) := by
    apply UInt32.toNat_inj.1
    have h1 : (UInt32.ofNat k).toNat = k := Nat.mod_eq_of_lt (by omega)
    have h2 : (UInt32.ofNat (k >>> j)).toNat = k >>> j := Nat.mod_eq_of_lt (by omega)
    rw [UInt32.toNat_shiftRight, nx_cnt ⟨j, hj⟩, h1, h2]
  show (UInt32.ofNat k >>> (UInt32.ofNat j &&& Int32.toUInt32 31)).toInt32 = _
  rw [e2]
  rfl
theorem nx_bit {k j : Nat} (hk : k < 65536) (hj : j < 16) : (((nI k).toUInt32 >>> ((nI j).toUInt32 &&& Int32.toUInt32 31)).toInt32 &&& 1) = 0 ↔ k.testBit j = false := by
  rw [nx_ush hk (by omega)]
  show nI (k >>> j) &&& nI 1 = 0 ↔ _
  rw [nx_and, Nat.and_one_is_mod, ← nI_0, nI_eq (by omega) (by omega), Nat.testBit_eq_decide_div_mod_eq, Nat.shiftRight_eq_div_pow, decide_eq_false_iff_not]
  generalize k / 2 ^ j = z
  omega
/-! ===== Int32 as a set of bits: test, set ===== -/
theorem nf_sh : ∀ l, l < 32 → ((1 : Int32) <<< (nI l &&& 31)).toBitVec = BitVec.twoPow 32 l := by decide +kernel
theorem nf_sl : ∀ l, l < 32 → (((nI l).toUInt32 &&& Int32.toUInt32 31).toBitVec % 32).toNat = l := by decide +kernel
theorem nf_tp : ∀ l, l < 32 → BitVec.twoPow 32 l ≠ 0#32 := by decide +kernel
theorem nf_bit (m : Int32) (l : Nat) (hl : l < 32) : ((m.toUInt32 >>> ((nI l).toUInt32 &&& Int32.toUInt32 31)).toInt32 &&& 1) = 0 ↔ (m &&& ((1 : Int32) <<< (nI l &&& 31))) = 0 := by
  have e : ((m.toUInt32 >>> ((nI l).toUInt32 &&& Int32.toUInt32 31)).toInt32).toBitVec = m.toBitVec >>> l := by
    show m.toBitVec >>> (((nI l).toUInt32 &&& Int32.toUInt32 31).toBitVec % 32) = m.toBitVec >>> l
    rw [BitVec.ushiftRight_eq', nf_sl l hl]
  rw [← Int32.toBitVec_inj, ← Int32.toBitVec_inj, Int32.toBitVec_and, Int32.toBitVec_and, nf_sh l hl, e, BitVec.and_twoPow]
  show (m.toBitVec >>> l &&& 1#32) = 0#32 ↔ _ = 0#32
  rw [BitVec.and_one_eq_setWidth_ofBool_getLsbD, BitVec.getLsbD_ushiftRight, Nat.add_zero]
  cases hb : m.toBitVec.getLsbD l
  · exact ⟨fun _ => by simp, fun _ => by decide⟩
  · exact ⟨fun z => absurd z (by decide), fun z => absurd ((if_pos rfl).symm.trans z) (nf_tp l hl)⟩
/-! ===== the rows of an elimination: p holds rows by their highest bits, S is their span ===== -/
/-- bit k of x is clear, as the code asks it -/
abbrev md_bt (x k : Int32) : Prop := ((x.toUInt32 >>> (k.toUInt32 &&& Int32.toUInt32 31)).toInt32) &&& 1 = 0
theorem md_t1 : ∀ k, k < 5 → ∀ n, n < 32 → n < 2 ^ (k + 1) → n.testBit k = false → n < 2 ^ k := by decide +kernel
theorem md_t2 : ∀ k, k < 5 → ∀ n, n < 32 → ∀ m, m < 32 → (n < 2 ^ (k + 1) ∧ m < 2 ^ (k + 1) ∧ n.testBit k = true ∧ m.testBit k = true) → n ^^^ m < 2 ^ k := by decide +kernel
theorem md_p5 {k n : Nat} (hk : k < 5) (h : n < 2 ^ (k + 1)) : n < 32 :=
  Nat.lt_of_lt_of_le h (Nat.pow_le_pow_right (n := 2) (by decide) (show k + 1 ≤ 5 by omega))
theorem md_xx (w v : Nat) : (w ^^^ v) ^^^ v = w := by rw [Nat.xor_assoc, Nat.xor_self, Nat.xor_zero]
def md_PI (p : Nat → Int32) (S : Nat → Prop) : Prop :=
  (∀ k, k < 5 → p k = 0 ∨ ∃ n, p k = nI n ∧ n < 2 ^ (k + 1) ∧ n.testBit k = true ∧ S n) ∧
  S 0 ∧ (∀ u v, S u → S v → S (u ^^^ v)) ∧ (∀ v, S v → v < 32) ∧
  (∀ k, k < 5 → ∀ v, S v → v < 2 ^ (k + 1) → v.testBit k = true → p k ≠ 0)
def md_ad (S : Nat → Prop) (v : Nat) : Nat → Prop := fun w => S w ∨ S (w ^^^ v)
theorem md_ad_in {p : Nat → Int32} {S : Nat → Prop} {v : Nat} (h : md_PI p S) (hv : S v) : md_ad S v = S := by
  funext w
  apply propext
  constructor
  · intro t
    rcases t with t | t
    · exact t
    · have t2 := h.2.2.1 _ _ t hv
      rw [md_xx] at t2
      exact t2
  · exact fun t => Or.inl t
theorem md_ad_x {p : Nat → Int32} {S : Nat → Prop} {v n : Nat} (h : md_PI p S) (hn : S n) : md_ad S (v ^^^ n) = md_ad S v := by
  funext w
  apply propext
  constructor
  · intro t
    rcases t with t | t
    · exact Or.inl t
    · have t2 := h.2.2.1 _ _ t hn
      rw [← Nat.xor_assoc w v n, md_xx] at t2
      exact Or.inr t2
  · intro t
    rcases t with t | t
    · exact Or.inl t
    · have t2 := h.2.2.1 _ _ t hn
      rw [Nat.xor_assoc w v n] at t2
      exact Or.inr t2
theorem md_in_x {p : Nat → Int32} {S : Nat → Prop} {v n : Nat} (h : md_PI p S) (hn : S n) : S (v ^^^ n) ↔ S v := by
  constructor
  · intro t
    have t2 := h.2.2.1 _ _ t hn
    rw [md_xx] at t2
    exact t2
  · exact fun t => h.2.2.1 _ _ t hn
theorem md_PI_0 {p : Nat → Int32} (h : ∀ j, j < 5 → p j = 0) : md_PI p (fun w => w = 0) := by
  refine ⟨fun k hk => Or.inl (h k hk), rfl, ?_, ?_, ?_⟩
  · intro u v hu hv
    show u ^^^ v = 0
    rw [show u = 0 from hu, show v = 0 from hv]
    rfl
  · intro v hv
    rw [show v = 0 from hv]
    decide
  · intro k _ v hv _ hb
    rw [show v = 0 from hv, Nat.zero_testBit] at hb
    exact absurd hb (by decide)
theorem md_PI_add {p : Nat → Int32} {S : Nat → Prop} {k v : Nat} (h : md_PI p S) (hk : k < 5) (h0 : p k = 0) (hv : v < 2 ^ (k + 1)) (hb : v.testBit k = true) : md_PI (upd p k (nI v)) (md_ad S v) := by
  have h32 : v < 32 := md_p5 hk hv
  have hv0 : 0 < v := by
    rcases Nat.eq_zero_or_pos v with z | z
    · rw [z, Nat.zero_testBit] at hb
      exact absurd hb (by decide)
    · exact z
  obtain ⟨h1, h2, h3, h4, h5⟩ := h
  refine ⟨?_, Or.inl h2, ?_, ?_, ?_⟩
  · intro j hj
    by_cases e : j = k
    · rw [e]
      exact Or.inr ⟨v, pk_us, hv, hb, Or.inr (by rw [Nat.xor_self]; exact h2)⟩
    · rw [pk_un e]
      rcases h1 j hj with t | ⟨n, t1, t2, t3, t4⟩
      · exact Or.inl t
      · exact Or.inr ⟨n, t1, t2, t3, Or.inl t4⟩
  · intro u w hu hw
    rcases hu with hu | hu
    · rcases hw with hw | hw
      · exact Or.inl (h3 _ _ hu hw)
      · refine Or.inr ?_
        rw [Nat.xor_assoc]
        exact h3 _ _ hu hw
    · rcases hw with hw | hw
      · refine Or.inr ?_
        rw [Nat.xor_comm u w, Nat.xor_assoc]
        exact h3 _ _ hw hu
      · refine Or.inl ?_
        have t := h3 _ _ hu hw
        rw [Nat.xor_comm w v, ← Nat.xor_assoc, md_xx] at t
        exact t
  · intro w hw
    rcases hw with hw | hw
    · exact h4 _ hw
    · have t := Nat.xor_lt_two_pow (n := 5) (h4 _ hw) h32
      rw [md_xx] at t
      exact t
  · intro j hj w hw hlt hbit
    by_cases e : j = k
    · rw [e, pk_us]
      exact nI_ne0 hv0 (by omega)
    · rw [pk_un e]
      rcases hw with t | t
      · exact h5 j hj w t hlt hbit
      · rcases Nat.lt_or_gt_of_ne e with g | g
        · have w1 : w < 2 ^ k := Nat.lt_of_lt_of_le hlt (Nat.pow_le_pow_right (by decide) (by omega))
          have w2 : w < 2 ^ (k + 1) := Nat.lt_of_lt_of_le w1 (Nat.pow_le_pow_right (by decide) (by omega))
          refine absurd h0 (h5 k hk (w ^^^ v) t (Nat.xor_lt_two_pow w2 hv) ?_)
          rw [Nat.testBit_xor, hb, Nat.testBit_lt_two_pow w1]
          rfl
        · have v1 : v < 2 ^ j := Nat.lt_of_lt_of_le hv (Nat.pow_le_pow_right (by decide) (by omega))
          have v2 : v < 2 ^ (j + 1) := Nat.lt_of_lt_of_le v1 (Nat.pow_le_pow_right (by decide) (by omega))
          refine h5 j hj (w ^^^ v) t (Nat.xor_lt_two_pow hlt v2) ?_
          rw [Nat.testBit_xor, hbit, Nat.testBit_lt_two_pow v1]
          rfl
theorem md_el {post : Int32 → St2 → Prop} {q : Int32} {a1 a2 a3 a4 a5 a6 a7 a8 a9 a10 a11 : Nat → Int32} {S : Nat → Prop} (hP : md_PI a4 S) : ∀ (k v : Nat), k ≤ 5 → v < 2 ^ k → (S v → post 0 (q, a1, a2, a3, a4, a5, a6, a7, a8, a9, a10, a11)) → (¬ S v → ∀ p', md_PI p' (md_ad S v) → post 1 (q, a1, a2, a3, p', a5, a6, a7, a8, a9, a10, a11)) → wX_eliminate_4 post q a1 a2 a3 a4 a5 a6 a7 a8 a9 a10 a11 (k + 1) (nI v) (nI k + (-1)) := by
  intro k
  induction k with
  | zero =>
    intro v _ hv h0 h1
    have e : v = 0 := by
      have hv' : v < 1 := hv
      omega
    subst e
    exact br_t (by decide) (h0 hP.2.1)
  | succ k ih =>
    intro v hk hv h0 h1
    have h32 : v < 32 := md_p5 (by omega) hv
    rw [pk_m1]
    refine br_f (nI_pos (by omega)) ?_
    by_cases hb : v.testBit k = true
    · refine br_f (fun z => ?_) ⟨pk_in k 5 (by omega), ?_⟩
      · rw [(nx_bit (by omega) (by omega)).mp z] at hb
        exact absurd hb (by decide)
      · rw [nI_clamp (show k < 2 ^ 31 by omega)]
        by_cases hz : a4 k = 0
        · exact br_t hz ⟨pk_in k 5 (by omega), nm_e (h1 (fun t => hP.2.2.2.2 k (by omega) v t hv hb hz) _ (md_PI_add hP (by omega) hz hv hb))⟩
        · refine br_f hz ⟨pk_in k 5 (by omega), ?_⟩
          obtain ⟨n, e1, e2, e3, e4⟩ := (hP.1 k (by omega)).resolve_left hz
          refine nm_r (show nI v ^^^ a4 k = nI (v ^^^ n) by rw [e1, nx_xor]) (nm_e (ih (v ^^^ n) (by omega) (md_t2 k (by omega) v h32 n (md_p5 (by omega) e2) ⟨hv, e2, hb, e3⟩) (fun t => h0 ((md_in_x hP e4).mp t)) (fun t p' hp => ?_)))
          rw [md_ad_x hP e4] at hp
          exact h1 (fun z => t ((md_in_x hP e4).mpr z)) p' hp
    · have hb' : v.testBit k = false := by
        cases e : v.testBit k
        · rfl
        · exact absurd e hb
      exact br_t ((nx_bit (by omega) (by omega)).mpr hb') (nm_e (ih v (by omega) (md_t1 k (by omega) v h32 hv hb') h0 h1))
theorem md_elim {post : Int32 → St2 → Prop} {q : Int32} {a1 a2 a3 a4 a5 a6 a7 a8 a9 a10 a11 : Nat → Int32} {S : Nat → Prop} {v : Nat} (hP : md_PI a4 S) (hv : v < 32) (h0 : S v → post 0 (q, a1, a2, a3, a4, a5, a6, a7, a8, a9, a10, a11)) (h1 : ¬ S v → ∀ p', md_PI p' (md_ad S v) → post 1 (q, a1, a2, a3, p', a5, a6, a7, a8, a9, a10, a11)) : wpX_eliminate post (q, a1, a2, a3, a4, a5, a6, a7, a8, a9, a10, a11) (nI v) := by
  have t := md_el (post := post) (q := q) (a1 := a1) (a2 := a2) (a3 := a3) (a5 := a5) (a6 := a6) (a7 := a7) (a8 := a8) (a9 := a9) (a10 := a10) (a11 := a11) hP 5 v (by omega) hv h0 h1
  rw [show nI 5 + (-1) = 4 from rfl] at t
  exact ⟨6, t⟩
end
section
/-! ===== rank and cancels ===== -/
/-- element e's number if it is in the set x, else 0 -/
def md_on (x : Int32) (e v : Nat) : Nat := if md_bt x (nI e) then 0 else v
def md_oI (x : Int32) (e : Nat) (v : Int32) : Int32 := if md_bt x (nI e) then 0 else v
theorem md_onI (x : Int32) (e v : Nat) : md_oI x e (nI v) = nI (md_on x e v) := by
  unfold md_oI md_on
  by_cases h : md_bt x (nI e)
  · rw [if_pos h, if_pos h]
    rfl
  · rw [if_neg h, if_neg h]
theorem md_on_t {x : Int32} {e v : Nat} (h : md_bt x (nI e)) : md_on x e v = 0 := if_pos h
theorem md_on_f {x : Int32} {e v : Nat} (h : ¬ md_bt x (nI e)) : md_on x e v = v := if_neg h
theorem md_on_lt {x : Int32} {e v : Nat} (h : v < 32) : md_on x e v < 32 := by
  unfold md_on
  by_cases h : md_bt x (nI e)
  · rw [if_pos h]
    decide
  · rw [if_neg h]
    assumption
def md_r3 (a b c : Int32) : Int32 := (if a = 0 then 0 else 1) + (if b = 0 ∨ a = b then 0 else 1) + (if c = 0 ∨ a = c ∨ b = c ∨ a ^^^ b = c then 0 else 1)
/-- the rank of a set -/
def md_R (a b c x : Int32) : Int32 := md_r3 (md_oI x 0 a) (md_oI x 3 b) (md_oI x 7 c)
/-- the array of vectors -/
def md_V (f : Nat → Int32) (a b c : Int32) : Prop := f 0 = a ∧ f 1 = nI 0 ∧ f 2 = nI 0 ∧ f 3 = b ∧ f 4 = nI 0 ∧ f 5 = nI 0 ∧ f 6 = nI 0 ∧ f 7 = c
theorem md_rs0 {post : Int32 → St2 → Prop} {q : Int32} {a1 a2 a3 a4 a5 a6 a7 a8 a9 a10 a11 : Nat → Int32} {S : Nat → Prop} {n e : Nat} {x1 x2 : Int32} (he : e < 8) (hv : a1 e = nI 0) (hP : md_PI a4 S)
    (K : ∀ p', md_PI p' S → wX_rank_24 post x1 n x2 (nI (e + 1)) q a1 a2 a3 p' a5 a6 a7 a8 a9 a10 a11) : wX_rank_24 post x1 (n + 1) x2 (nI e) q a1 a2 a3 a4 a5 a6 a7 a8 a9 a10 a11 := by
  refine br_f (nI_ge (b := 8) he (by decide)) ?_
  by_cases hb : md_bt x1 (nI e)
  · exact br_t hb (nm_r (nI_1 e) (K a4 hP))
  · refine br_f hb ⟨pk_in e 8 he, ?_⟩
    rw [nI_clamp (show e < 2 ^ 31 by omega), hv]
    refine md_elim (v := 0) hP (by decide) (fun _ => ?_) (fun h => absurd hP.2.1 h)
    exact br_t rfl (nm_r (Int32.add_zero _) (nm_r (nI_1 e) (K a4 hP)))
theorem md_rs {post : Int32 → St2 → Prop} {q : Int32} {a1 a2 a3 a4 a5 a6 a7 a8 a9 a10 a11 : Nat → Int32} {S : Nat → Prop} {n e v : Nat} {x1 x2 : Int32} (he : e < 8) (hv : a1 e = nI v) (h32 : v < 32) (hP : md_PI a4 S)
    (K : ∀ p' r, md_PI p' (md_ad S (md_on x1 e v)) → (S (md_on x1 e v) → r = 0) → (¬ S (md_on x1 e v) → r = 1) → wX_rank_24 post x1 n (x2 + r) (nI (e + 1)) q a1 a2 a3 p' a5 a6 a7 a8 a9 a10 a11) : wX_rank_24 post x1 (n + 1) x2 (nI e) q a1 a2 a3 a4 a5 a6 a7 a8 a9 a10 a11 := by
  refine br_f (nI_ge (b := 8) he (by decide)) ?_
  by_cases hb : md_bt x1 (nI e)
  · have t := K a4 0
    rw [md_on_t hb, md_ad_in hP hP.2.1, Int32.add_zero] at t
    exact br_t hb (nm_r (nI_1 e) (t hP (fun _ => rfl) (fun z => absurd hP.2.1 z)))
  · refine br_f hb ⟨pk_in e 8 he, ?_⟩
    rw [md_on_f hb] at K
    rw [nI_clamp (show e < 2 ^ 31 by omega), hv]
    refine md_elim (v := v) hP h32 (fun hS => ?_) (fun hS p' hp => ?_)
    · have t := K a4 0
      rw [md_ad_in hP hS] at t
      exact br_t rfl (nm_e (nm_r (nI_1 e) (t hP (fun _ => rfl) (fun z => absurd hS z))))
    · exact br_f (by decide) (nm_e (nm_r (nI_1 e) (K p' 1 hp (fun z => absurd z hS) (fun _ => rfl))))
theorem md_rz {post : Int32 → St2 → Prop} {x1 : Int32} {q : Int32} {a1 a2 a3 a5 a6 a7 a8 a9 a10 a11 : Nat → Int32} (H : ∀ p, (∀ j, j < 5 → p j = 0) → ∃ fu, wX_rank_24 post x1 fu 0 0 q a1 a2 a3 p a5 a6 a7 a8 a9 a10 a11) : ∀ (k i : Nat) (a4 : Nat → Int32), i + k = 5 → (∀ j, j < i → a4 j = 0) → wX_rank_2 post x1 q (k + 1) (nI i) a1 a2 a3 a4 a5 a6 a7 a8 a9 a10 a11 := by
  intro k
  induction k with
  | zero =>
    intro i a4 hi h
    exact pk_le 5 i (fun _ => H a4 (fun j hj => h j (by omega))) (fun z => absurd z (by omega))
  | succ k ih =>
    intro i a4 hi h
    refine pk_le 5 i (fun z => absurd z (by omega)) (fun _ => ⟨pk_in i 5 (by omega), nm_e (nm_r (nI_1 i) (ih (i + 1) _ (by omega) ?_))⟩)
    rw [nI_clamp (show i < 2 ^ 31 by omega)]
    intro j hj
    by_cases e : j = i
    · rw [e, pk_us]
    · rw [pk_un e]
      exact h j (by omega)
theorem md_x0 {a b : Nat} : a ^^^ b = 0 ↔ a = b := by
  constructor
  · intro h
    have t := md_xx a b
    rw [h, Nat.zero_xor] at t
    exact t.symm
  · intro h
    rw [h, Nat.xor_self]
theorem md_nI0 {a : Nat} (h : a < 32) : nI a = 0 ↔ a = 0 := by
  rw [← nI_0, nI_eq (by omega) (by omega)]
theorem md_nIe {a b : Nat} (h : a < 32) (g : b < 32) : nI a = nI b ↔ a = b := nI_eq (by omega) (by omega)
theorem md_sum {a b c : Nat} {r1 r2 r3 : Int32} (ha : a < 32) (hb : b < 32) (hc : c < 32)
    (p1 : a = 0 → r1 = 0) (n1 : ¬ a = 0 → r1 = 1)
    (p2 : md_ad (fun w => w = 0) a b → r2 = 0) (n2 : ¬ md_ad (fun w => w = 0) a b → r2 = 1)
    (p3 : md_ad (md_ad (fun w => w = 0) a) b c → r3 = 0) (n3 : ¬ md_ad (md_ad (fun w => w = 0) a) b c → r3 = 1) : 0 + r1 + r2 + r3 = md_r3 (nI a) (nI b) (nI c) := by
  have e1 : r1 = if nI a = 0 then 0 else 1 := by
    by_cases h : a = 0
    · rw [p1 h, if_pos ((md_nI0 ha).mpr h)]
    · rw [n1 h, if_neg (fun z => h ((md_nI0 ha).mp z))]
  have q2 : md_ad (fun w => w = 0) a b ↔ nI b = 0 ∨ nI a = nI b := by
    rw [md_nI0 hb, md_nIe ha hb]
    show (b = 0 ∨ b ^^^ a = 0) ↔ _
    rw [md_x0, eq_comm (a := b) (b := a)]
  have e2 : r2 = if nI b = 0 ∨ nI a = nI b then 0 else 1 := by
    by_cases h : md_ad (fun w => w = 0) a b
    · rw [p2 h, if_pos (q2.mp h)]
    · rw [n2 h, if_neg (fun z => h (q2.mpr z))]
  have q3 : md_ad (md_ad (fun w => w = 0) a) b c ↔ nI c = 0 ∨ nI a = nI c ∨ nI b = nI c ∨ nI a ^^^ nI b = nI c := by
    rw [nx_xor, md_nI0 hc, md_nIe ha hc, md_nIe hb hc, md_nIe (Nat.xor_lt_two_pow (n := 5) ha hb) hc]
    show ((c = 0 ∨ c ^^^ a = 0) ∨ (c ^^^ b = 0 ∨ (c ^^^ b) ^^^ a = 0)) ↔ _
    rw [Nat.xor_assoc, Nat.xor_comm b a, md_x0, md_x0, md_x0, eq_comm (a := c) (b := a), eq_comm (a := c) (b := b), eq_comm (a := c) (b := a ^^^ b), or_assoc]
  have e3 : r3 = if nI c = 0 ∨ nI a = nI c ∨ nI b = nI c ∨ nI a ^^^ nI b = nI c then 0 else 1 := by
    by_cases h : md_ad (md_ad (fun w => w = 0) a) b c
    · rw [p3 h, if_pos (q3.mp h)]
    · rw [n3 h, if_neg (fun z => h (q3.mpr z))]
  rw [Int32.zero_add, e1, e2, e3]
  rfl
theorem md_rank {post : Int32 → St2 → Prop} {q : Int32} {a1 a2 a3 a4 a5 a6 a7 a8 a9 a10 a11 : Nat → Int32} {a b c : Nat} {x1 : Int32} (ha : a < 32) (hb : b < 32) (hc : c < 32) (hV : md_V a1 (nI a) (nI b) (nI c))
    (K : ∀ p', post (md_R (nI a) (nI b) (nI c) x1) (q, a1, a2, a3, p', a5, a6, a7, a8, a9, a10, a11)) : wpX_rank post (q, a1, a2, a3, a4, a5, a6, a7, a8, a9, a10, a11) x1 := by
  refine ⟨6, md_rz (fun p hp => ⟨9, ?_⟩) 5 0 a4 rfl (fun j hj => absurd hj (by omega))⟩
  obtain ⟨v0, v1, v2, v3, v4, v5, v6, v7⟩ := hV
  refine md_rs (e := 0) (v := a) (by decide) v0 ha (md_PI_0 hp) (fun p1 r1 P1 s1 t1 => ?_)
  refine md_rs0 (e := 1) (by decide) v1 P1 (fun p2 P2 => ?_)
  refine md_rs0 (e := 2) (by decide) v2 P2 (fun p3 P3 => ?_)
  refine md_rs (e := 3) (v := b) (by decide) v3 hb P3 (fun p4 r2 P4 s2 t2 => ?_)
  refine md_rs0 (e := 4) (by decide) v4 P4 (fun p5 P5 => ?_)
  refine md_rs0 (e := 5) (by decide) v5 P5 (fun p6 P6 => ?_)
  refine md_rs0 (e := 6) (by decide) v6 P6 (fun p7 P7 => ?_)
  refine md_rs (e := 7) (v := c) (by decide) v7 hc P7 (fun p8 r3 P8 s3 t3 => ?_)
  refine br_t (nI_le (a := 8) (b := 8) (by decide) (by decide)) ?_
  rw [md_sum (md_on_lt ha) (md_on_lt hb) (md_on_lt hc) s1 t1 s2 t2 s3 t3, ← md_onI, ← md_onI, ← md_onI]
  exact K p8
/-- what the other methods know of rank: it answers rk, and spoils pivot alone -/
def md_RK (rk : Int32 → Int32) (a1 : Nat → Int32) : Prop := ∀ (post : Int32 → St2 → Prop) (q : Int32) (a2 a3 a4 a5 a6 a7 a8 a9 a10 a11 : Nat → Int32) (x : Int32), (∀ p', post (rk x) (q, a1, a2, a3, p', a5, a6, a7, a8, a9, a10, a11)) → wpX_rank post (q, a1, a2, a3, a4, a5, a6, a7, a8, a9, a10, a11) x
theorem md_RK_R {a1 : Nat → Int32} {a b c : Nat} (ha : a < 32) (hb : b < 32) (hc : c < 32) (hV : md_V a1 (nI a) (nI b) (nI c)) : md_RK (md_R (nI a) (nI b) (nI c)) a1 :=
  fun _ _ _ _ _ _ _ _ _ _ _ _ _ K => md_rank ha hb hc hV K
/-! cancels -/
def md_cnf (f : Nat → Int32) (x : Int32) : Nat → Nat → Int32 → Int32
  | 0, _, s => s
  | k + 1, i, s => md_cnf f x k (i + 1) (s ^^^ (if md_bt x (nI i) then 0 else f i))
def md_cn (a b c x : Int32) : Int32 := if md_oI x 0 a ^^^ md_oI x 3 b = md_oI x 7 c then 1 else 0
theorem md_cnl {post : Int32 → Prop} {x1 : Int32} {q : Int32} {a1 a2 a3 a4 a5 a6 a7 a8 a9 a10 a11 : Nat → Int32} : ∀ (k i : Nat) (s : Int32), i + k = 8 → post (if md_cnf a1 x1 k i s = 0 then 1 else 0) → wX_cancels_4 post x1 q a1 a2 a3 a4 a5 a6 a7 a8 a9 a10 a11 (k + 1) s (nI i) := by
  intro k
  induction k with
  | zero =>
    intro i s hi H
    refine pk_le 8 i (fun _ => ?_) (fun z => absurd z (by omega))
    exact br_c (fun z => by rw [show md_cnf a1 x1 0 i s = s from rfl, if_pos z] at H; exact H) (fun z => by rw [show md_cnf a1 x1 0 i s = s from rfl, if_neg z] at H; exact H)
  | succ k ih =>
    intro i s hi H
    refine pk_le 8 i (fun z => absurd z (by omega)) (fun _ => ?_)
    have H' : post (if md_cnf a1 x1 k (i + 1) (s ^^^ (if md_bt x1 (nI i) then 0 else a1 i)) = 0 then 1 else 0) := H
    by_cases hb : md_bt x1 (nI i)
    · rw [if_pos hb] at H'
      exact br_t hb (nm_e (nm_r (nI_1 i) (ih (i + 1) _ (by omega) H')))
    · rw [if_neg hb] at H'
      refine br_f hb ⟨pk_in i 8 (by omega), ?_⟩
      rw [nI_clamp (show i < 2 ^ 31 by omega)]
      exact nm_e (nm_r (nI_1 i) (ih (i + 1) _ (by omega) H'))
theorem md_cancels {post : Int32 → Prop} {x1 a b c : Int32} {q : Int32} {a1 a2 a3 a4 a5 a6 a7 a8 a9 a10 a11 : Nat → Int32} (hV : md_V a1 a b c) (K : post (md_cn a b c x1)) : wpX_cancels post (q, a1, a2, a3, a4, a5, a6, a7, a8, a9, a10, a11) x1 := by
  refine ⟨9, md_cnl 8 0 0 rfl ?_⟩
  obtain ⟨v0, v1, v2, v3, v4, v5, v6, v7⟩ := hV
  have e : (md_cnf a1 x1 8 0 0 = 0) = (md_oI x1 0 a ^^^ md_oI x1 3 b = md_oI x1 7 c) := by
    simp only [md_cnf, Nat.zero_add, Nat.reduceAdd, v0, v1, v2, v3, v4, v5, v6, v7, nI_0, ite_self, Int32.xor_zero, Int32.zero_xor]
    rw [Int32.xor_eq_zero_iff]
    rfl
  simp only [e]
  exact K
def md_CN (cn : Int32 → Int32) (a1 : Nat → Int32) : Prop := ∀ (post : Int32 → Prop) (q : Int32) (a2 a3 a4 a5 a6 a7 a8 a9 a10 a11 : Nat → Int32) (x : Int32), post (cn x) → wpX_cancels post (q, a1, a2, a3, a4, a5, a6, a7, a8, a9, a10, a11) x
end
section
/-! ===== the small methods: size, isIndependent, members, filling, colours ===== -/
theorem md_ic {c A B : Prop} [Decidable c] {α : Type} {P : α → Prop} {u v : α} (h : P (if c then u else v)) (hA : P u → A) (hB : P v → B) : (c → A) ∧ (¬ c → B) := by
  by_cases z : c
  · rw [if_pos z] at h
    exact br_t z (hA h)
  · rw [if_neg z] at h
    exact br_f z (hB h)
def md_szf (x : Int32) : Nat → Nat → Int32 → Int32
  | 0, _, s => s
  | k + 1, i, s => md_szf x k (i + 1) (s + (((x.toUInt32 >>> ((nI i).toUInt32 &&& Int32.toUInt32 31)).toInt32) &&& 1))
def md_sz (x : Int32) : Int32 := md_szf x 8 0 0
theorem md_szl {post : Int32 → Prop} {x0 : Int32} : ∀ (k i : Nat) (s : Int32), i + k = 8 → post (md_szf x0 k i s) → wX_size_4 post x0 (k + 1) s (nI i) := by
  intro k
  induction k with
  | zero =>
    intro i s hi H
    exact pk_le 8 i (fun _ => H) (fun z => absurd z (by omega))
  | succ k ih =>
    intro i s hi H
    exact pk_le 8 i (fun z => absurd z (by omega)) (fun _ => nm_e (nm_r (nI_1 i) (ih (i + 1) _ (by omega) H)))
theorem md_size {post : Int32 → Prop} {x0 : Int32} (K : post (md_sz x0)) : wpX_size post () x0 := ⟨9, md_szl 8 0 0 rfl K⟩
def md_ind (rk : Int32 → Int32) (x : Int32) : Int32 := if rk x = md_sz x then 1 else 0
theorem md_isInd {post : Int32 → St2 → Prop} {q : Int32} {a1 a2 a3 a4 a5 a6 a7 a8 a9 a10 a11 : Nat → Int32} {rk : Int32 → Int32} {x : Int32} (hR : md_RK rk a1) (K : ∀ p', post (md_ind rk x) (q, a1, a2, a3, p', a5, a6, a7, a8, a9, a10, a11)) : wpX_isIndependent post (q, a1, a2, a3, a4, a5, a6, a7, a8, a9, a10, a11) x := by
  refine hR _ q a2 a3 a4 a5 a6 a7 a8 a9 a10 a11 x (fun p' => ?_)
  refine md_size ?_
  exact md_ic (P := fun r => post r (q, a1, a2, a3, p', a5, a6, a7, a8, a9, a10, a11)) (K p') id id
def md_mf (f : Nat → Int32) (c : Int32) : Nat → Nat → Int32 → Int32
  | 0, _, s => s
  | k + 1, i, s => md_mf f c k (i + 1) (s ||| (if f i = c then (1 : Int32) <<< (nI i &&& 31) else 0))
def md_mem (f : Nat → Int32) (c : Int32) : Int32 := md_mf f c 8 0 0
theorem md_ml {post : Int32 → Prop} {x1 : Int32} {q : Int32} {a1 a2 a3 a4 a5 a6 a7 a8 a9 a10 a11 : Nat → Int32} : ∀ (k i : Nat) (s : Int32), i + k = 8 → post (md_mf a5 x1 k i s) → wX_members_4 post x1 q a1 a2 a3 a4 a5 a6 a7 a8 a9 a10 a11 (k + 1) s (nI i) := by
  intro k
  induction k with
  | zero =>
    intro i s hi H
    exact pk_le 8 i (fun _ => H) (fun z => absurd z (by omega))
  | succ k ih =>
    intro i s hi H
    refine pk_le 8 i (fun z => absurd z (by omega)) (fun _ => ⟨pk_in i 8 (by omega), ?_⟩)
    rw [nI_clamp (show i < 2 ^ 31 by omega)]
    have H' : post (md_mf a5 x1 k (i + 1) (s ||| (if a5 i = x1 then (1 : Int32) <<< (nI i &&& 31) else 0))) := H
    by_cases hb : a5 i = x1
    · rw [if_pos hb] at H'
      exact br_t hb (nm_e (nm_r (nI_1 i) (ih (i + 1) _ (by omega) H')))
    · rw [if_neg hb] at H'
      exact br_f hb (nm_e (nm_r (nI_1 i) (ih (i + 1) _ (by omega) H')))
theorem md_members {post : Int32 → Prop} {x1 : Int32} {q : Int32} {a1 a2 a3 a4 a5 a6 a7 a8 a9 a10 a11 : Nat → Int32} (K : post (md_mem a5 x1)) : wpX_members post (q, a1, a2, a3, a4, a5, a6, a7, a8, a9, a10, a11) x1 := ⟨9, md_ml 8 0 0 rfl K⟩
def md_fl (v : Int32) : Nat → Nat → (Nat → Int32) → Nat → Int32
  | 0, _, f => f
  | k + 1, i, f => md_fl v k (i + 1) (upd f i v)
theorem md_cll {post : St2 → Prop} {q : Int32} {a1 a2 a3 a4 a6 a7 a8 a9 a10 a11 : Nat → Int32} : ∀ (k i : Nat) (a5 : Nat → Int32), i + k = 8 → post (q, a1, a2, a3, a4, (md_fl 0 k i a5), a6, a7, a8, a9, a10, a11) → wX_clearClasses_2 post q (k + 1) (nI i) a1 a2 a3 a4 a5 a6 a7 a8 a9 a10 a11 := by
  intro k
  induction k with
  | zero =>
    intro i a5 hi H
    exact pk_le 8 i (fun _ => H) (fun z => absurd z (by omega))
  | succ k ih =>
    intro i a5 hi H
    exact pk_le 8 i (fun z => absurd z (by omega)) (fun _ => ⟨pk_in i 8 (by omega), nm_r (show upd a5 (nI i).toNatClampNeg 0 = upd a5 i 0 by rw [nI_clamp (show i < 2 ^ 31 by omega)]) (nm_r (nI_1 i) (ih (i + 1) _ (by omega) H))⟩)
theorem md_clear {post : St2 → Prop} {q : Int32} {a1 a2 a3 a4 a5 a6 a7 a8 a9 a10 a11 : Nat → Int32} (K : post (q, a1, a2, a3, a4, (md_fl 0 8 0 a5), a6, a7, a8, a9, a10, a11)) : wpX_clearClasses post (q, a1, a2, a3, a4, a5, a6, a7, a8, a9, a10, a11) := ⟨9, md_cll 8 0 a5 rfl K⟩
theorem md_stl {post : St2 → Prop} {q : Int32} {a1 a2 a3 a4 a5 a8 a9 a10 a11 : Nat → Int32} : ∀ (k i : Nat) (a6 a7 : Nat → Int32), i + k = 8 → post (q, a1, a2, a3, a4, a5, (md_fl (-1) k i a6), (md_fl 0 k i a7), a8, a9, a10, a11) → wX_startSearch_7 post q (k + 1) (nI i) a1 a2 a3 a4 a5 a6 a7 a8 a9 a10 a11 := by
  intro k
  induction k with
  | zero =>
    intro i a6 a7 hi H
    exact pk_le 8 i (fun _ => H) (fun z => absurd z (by omega))
  | succ k ih =>
    intro i a6 a7 hi H
    exact pk_le 8 i (fun z => absurd z (by omega)) (fun _ => ⟨pk_in i 8 (by omega), nm_r (show upd a7 (nI i).toNatClampNeg 0 = upd a7 i 0 by rw [nI_clamp (show i < 2 ^ 31 by omega)]) ⟨pk_in i 8 (by omega), nm_r (show upd a6 (nI i).toNatClampNeg (-1) = upd a6 i (-1) by rw [nI_clamp (show i < 2 ^ 31 by omega)]) (nm_r (nI_1 i) (ih (i + 1) _ _ (by omega) H))⟩⟩)
theorem md_start {post : St2 → Prop} {q : Int32} {a1 a2 a3 a4 a5 a6 a7 a8 a9 a10 a11 : Nat → Int32} (K : post (0, a1, a2, a3, a4, a5, (md_fl (-1) 8 0 a6), (md_fl 0 8 0 a7), a8, a9, a10, a11)) : wpX_startSearch post (q, a1, a2, a3, a4, a5, a6, a7, a8, a9, a10, a11) := ⟨9, md_stl 8 0 a6 a7 rfl K⟩
def md_dcf (f : Nat → Int32) (x : Int32) : Nat → Nat → Int32 → Int32
  | 0, _, _ => 1
  | k + 1, i, s => if md_bt x (nI i) then md_dcf f x k (i + 1) s else if md_bt s (f i) then md_dcf f x k (i + 1) (s ||| ((1 : Int32) <<< (f i &&& 31))) else 0
theorem md_dcl {post : Int32 → Prop} {x1 : Int32} {q : Int32} {a1 a2 a3 a4 a5 a6 a7 a8 a9 a10 a11 : Nat → Int32} : ∀ (k i : Nat) (s : Int32), i + k = 8 → post (md_dcf a2 x1 k i s) → wX_differentColours_4 post x1 q a1 a2 a3 a4 a5 a6 a7 a8 a9 a10 a11 (k + 1) s (nI i) := by
  intro k
  induction k with
  | zero =>
    intro i s hi H
    exact pk_le 8 i (fun _ => H) (fun z => absurd z (by omega))
  | succ k ih =>
    intro i s hi H
    refine pk_le 8 i (fun z => absurd z (by omega)) (fun _ => ?_)
    rw [nI_clamp (show i < 2 ^ 31 by omega)]
    have H' : post (if md_bt x1 (nI i) then md_dcf a2 x1 k (i + 1) s else if md_bt s (a2 i) then md_dcf a2 x1 k (i + 1) (s ||| ((1 : Int32) <<< (a2 i &&& 31))) else 0) := H
    by_cases hb : md_bt x1 (nI i)
    · rw [if_pos hb] at H'
      exact br_t hb (nm_r (nI_1 i) (ih (i + 1) _ (by omega) H'))
    · rw [if_neg hb] at H'
      refine br_f hb ⟨pk_in i 8 (by omega), ?_⟩
      by_cases hs : md_bt s (a2 i)
      · rw [if_pos hs] at H'
        exact br_t hs ⟨pk_in i 8 (by omega), nm_e (nm_r (nI_1 i) (ih (i + 1) _ (by omega) H'))⟩
      · rw [if_neg hs] at H'
        exact br_f hs H'
def md_dc (f : Nat → Int32) (x : Int32) : Int32 := md_dcf f x 8 0 0
theorem md_diff {post : Int32 → Prop} {x1 : Int32} {q : Int32} {a1 a2 a3 a4 a5 a6 a7 a8 a9 a10 a11 : Nat → Int32} (K : post (md_dc a2 x1)) : wpX_differentColours post (q, a1, a2, a3, a4, a5, a6, a7, a8, a9, a10, a11) x1 := ⟨9, md_dcl 8 0 0 rfl K⟩
/-! reach, and the two ways back -/
abbrev md_Ar : Type := Nat → Int32
abbrev md_S : Type := Int32 × md_Ar × md_Ar × md_Ar × md_Ar
def md_ok (x : Int32) (n : Nat) : Bool := decide (0 ≤ x.toInt) && decide (x.toInt < n)
theorem md_okI {x : Int32} {n : Nat} (h : md_ok x n = true) : vp_in x n := by
  unfold md_ok at h
  rw [Bool.and_eq_true, decide_eq_true_eq, decide_eq_true_eq] at h
  exact vp_in_iff.mpr h
def md_reach (e f q : Int32) (a5 a6 a7 a8 : md_Ar) : Option md_S :=
  if md_ok e 8 = true then (if a7 e.toNatClampNeg = 0 then (if md_ok q 8 = true then some (q + 1, a5, upd a6 e.toNatClampNeg f, upd a7 e.toNatClampNeg 1, upd a8 q.toNatClampNeg e) else none) else some (q, a5, a6, a7, a8)) else none
theorem md_reachW {post : St2 → Prop} {q : Int32} {a1 a2 a3 a4 a5 a6 a7 a8 a9 a10 a11 : Nat → Int32} {e f q' : Int32} {b5 b6 b7 b8 : md_Ar} (h : md_reach e f q a5 a6 a7 a8 = some (q', b5, b6, b7, b8)) (K : post (q', a1, a2, a3, a4, b5, b6, b7, b8, a9, a10, a11)) : wpX_reach post (q, a1, a2, a3, a4, a5, a6, a7, a8, a9, a10, a11) e f := by
  unfold md_reach at h
  by_cases h1 : md_ok e 8 = true
  · rw [if_pos h1] at h
    by_cases h2 : a7 e.toNatClampNeg = 0
    · rw [if_pos h2] at h
      by_cases h3 : md_ok q 8 = true
      · rw [if_pos h3] at h
        cases h
        exact ⟨md_okI h1, br_t h2 ⟨md_okI h1, nm_e ⟨md_okI h1, nm_e ⟨md_okI h3, nm_e (nm_e K)⟩⟩⟩⟩
      · rw [if_neg h3] at h
        cases h
    · rw [if_neg h2] at h
      cases h
      exact ⟨md_okI h1, br_f h2 K⟩
  · rw [if_neg h1] at h
    cases h
def md_turn (a6 : md_Ar) : Nat → Int32 → md_Ar → Option md_Ar
  | 0, _, a5 => some a5
  | k + 1, e, a5 => if e < 0 then some a5 else if md_ok e 8 = true then md_turn a6 k (a6 e.toNatClampNeg) (upd a5 e.toNatClampNeg (1 - a5 e.toNatClampNeg)) else none
theorem md_turnL {post : St2 → Prop} {q : Int32} {a1 a2 a3 a4 a6 a7 a8 a9 a10 a11 b5 : Nat → Int32} (K : post (q, a1, a2, a3, a4, b5, a6, a7, a8, a9, a10, a11)) : ∀ (k i : Nat) (e : Int32) (a5 : Nat → Int32), i + k = 8 → md_turn a6 k e a5 = some b5 → wX_turnRainbow_4 post q (k + 1) e (nI i) a1 a2 a3 a4 a5 a6 a7 a8 a9 a10 a11 := by
  intro k
  induction k with
  | zero =>
    intro i e a5 hi h
    have h' : some a5 = some b5 := h
    cases h'
    exact pk_le 8 i (fun _ => K) (fun z => absurd z (by omega))
  | succ k ih =>
    intro i e a5 hi h
    refine pk_le 8 i (fun z => absurd z (by omega)) (fun _ => ?_)
    have h' : (if e < 0 then some a5 else if md_ok e 8 = true then md_turn a6 k (a6 e.toNatClampNeg) (upd a5 e.toNatClampNeg (1 - a5 e.toNatClampNeg)) else none) = some b5 := h
    by_cases h1 : e < 0
    · rw [if_pos h1] at h'
      cases h'
      exact br_t h1 K
    · rw [if_neg h1] at h'
      by_cases h2 : md_ok e 8 = true
      · rw [if_pos h2] at h'
        exact br_f h1 ⟨md_okI h2, md_okI h2, nm_e ⟨md_okI h2, nm_e (nm_r (nI_1 i) (ih (i + 1) _ _ (by omega) h'))⟩⟩
      · rw [if_neg h2] at h'
        cases h'
theorem md_turnW {post : St2 → Prop} {q : Int32} {a1 a2 a3 a4 a5 a6 a7 a8 a9 a10 a11 : Nat → Int32} {e : Int32} {b5 : md_Ar} (h : md_turn a6 8 e a5 = some b5) (K : post (q, a1, a2, a3, a4, b5, a6, a7, a8, a9, a10, a11)) : wpX_turnRainbow post (q, a1, a2, a3, a4, a5, a6, a7, a8, a9, a10, a11) e := ⟨9, md_turnL K 8 0 e a5 rfl h⟩
def md_push (a6 : md_Ar) : Nat → Int32 → Int32 → md_Ar → Option md_Ar
  | 0, _, _, a5 => some a5
  | k + 1, e, c, a5 => if e < 0 then some a5 else if md_ok e 8 = true then md_push a6 k (a6 e.toNatClampNeg) (a5 e.toNatClampNeg) (upd a5 e.toNatClampNeg c) else none
theorem md_pushL {post : St2 → Prop} {q : Int32} {a1 a2 a3 a4 a6 a7 a8 a9 a10 a11 b5 : Nat → Int32} (K : post (q, a1, a2, a3, a4, b5, a6, a7, a8, a9, a10, a11)) : ∀ (k i : Nat) (e c : Int32) (a5 : Nat → Int32), i + k = 8 → md_push a6 k e c a5 = some b5 → wX_pushAlong_8 post q (k + 1) e c (nI i) a1 a2 a3 a4 a5 a6 a7 a8 a9 a10 a11 := by
  intro k
  induction k with
  | zero =>
    intro i e c a5 hi h
    have h' : some a5 = some b5 := h
    cases h'
    exact pk_le 8 i (fun _ => K) (fun z => absurd z (by omega))
  | succ k ih =>
    intro i e c a5 hi h
    refine pk_le 8 i (fun z => absurd z (by omega)) (fun _ => ?_)
    have h' : (if e < 0 then some a5 else if md_ok e 8 = true then md_push a6 k (a6 e.toNatClampNeg) (a5 e.toNatClampNeg) (upd a5 e.toNatClampNeg c) else none) = some b5 := h
    by_cases h1 : e < 0
    · rw [if_pos h1] at h'
      cases h'
      exact br_t h1 K
    · rw [if_neg h1] at h'
      by_cases h2 : md_ok e 8 = true
      · rw [if_pos h2] at h'
        exact br_f h1 ⟨md_okI h2, nm_e ⟨md_okI h2, nm_e ⟨md_okI h2, nm_e (nm_r (nI_1 i) (ih (i + 1) _ _ _ (by omega) h'))⟩⟩⟩
      · rw [if_neg h2] at h'
        cases h'
theorem md_pushW {post : St2 → Prop} {q : Int32} {a1 a2 a3 a4 a5 a6 a7 a8 a9 a10 a11 : Nat → Int32} {e c : Int32} {b5 : md_Ar} (h : md_push a6 8 e c a5 = some b5) (K : post (q, a1, a2, a3, a4, b5, a6, a7, a8, a9, a10, a11)) : wpX_pushAlong post (q, a1, a2, a3, a4, a5, a6, a7, a8, a9, a10, a11) e c := ⟨9, md_pushL K 8 0 e c a5 rfl h⟩
end
section
/-! ===== rainbow ===== -/
def md_g1 (rk : Int32 → Int32) (set : Int32) : Nat → Nat → Int32 → md_Ar → md_Ar → md_Ar → md_Ar → Option md_S
  | 0, _, q, a5, a6, a7, a8 => some (q, a5, a6, a7, a8)
  | k + 1, i, q, a5, a6, a7, a8 =>
    if a5 i = 0 then
      (if md_ind rk (set ||| ((1 : Int32) <<< (nI i &&& 31))) = 0 then md_g1 rk set k (i + 1) q a5 a6 a7 a8
       else match md_reach (nI i) (-1) q a5 a6 a7 a8 with
         | none => none
         | some (q', b5, b6, b7, b8) => md_g1 rk set k (i + 1) q' b5 b6 b7 b8)
    else md_g1 rk set k (i + 1) q a5 a6 a7 a8
theorem md_g1W {post : Int32 → St2 → Prop} {rk : Int32 → Int32} {x1 q' : Int32} {a1 a2 a3 a9 a10 a11 b5 b6 b7 b8 : Nat → Int32} (hR : md_RK rk a1)
    (H : ∀ p', ∃ fu, wX_growRainbow_53 post x1 fu 0 q' a1 a2 a3 p' b5 b6 b7 b8 a9 a10 a11) :
    ∀ (k i : Nat) (q : Int32) (a4 a5 a6 a7 a8 : Nat → Int32), i + k = 8 → md_g1 rk x1 k i q a5 a6 a7 a8 = some (q', b5, b6, b7, b8) → wX_growRainbow_12 post x1 (k + 1) (nI i) q a1 a2 a3 a4 a5 a6 a7 a8 a9 a10 a11 := by
  intro k
  induction k with
  | zero =>
    intro i q a4 a5 a6 a7 a8 hi h
    have h' : some (q, a5, a6, a7, a8) = some (q', b5, b6, b7, b8) := h
    cases h'
    exact pk_le 8 i (fun _ => H a4) (fun z => absurd z (by omega))
  | succ k ih =>
    intro i q a4 a5 a6 a7 a8 hi h
    refine pk_le 8 i (fun z => absurd z (by omega)) (fun _ => ⟨pk_in i 8 (by omega), ?_⟩)
    rw [nI_clamp (show i < 2 ^ 31 by omega)]
    rw [md_g1] at h
    by_cases h1 : a5 i = 0
    · rw [if_pos h1] at h
      refine br_t h1 (md_isInd hR (fun p' => ?_))
      by_cases h2 : md_ind rk (x1 ||| ((1 : Int32) <<< (nI i &&& 31))) = 0
      · rw [if_pos h2] at h
        exact br_t h2 (nm_r (nI_1 i) (ih (i + 1) _ _ _ _ _ _ (by omega) h))
      · rw [if_neg h2] at h
        refine br_f h2 ?_
        cases hr : md_reach (nI i) (-1) q a5 a6 a7 a8 with
        | none =>
          rw [hr] at h
          cases h
        | some s =>
          obtain ⟨q2, c5, c6, c7, c8⟩ := s
          rw [hr] at h
          exact md_reachW hr (nm_r (nI_1 i) (ih (i + 1) _ _ _ _ _ _ (by omega) h))
    · rw [if_neg h1] at h
      exact br_f h1 (nm_r (nI_1 i) (ih (i + 1) _ _ _ _ _ _ (by omega) h))
/-- the search's only turn that is taken: the queue's first element is turned at once, or there is none -/
def md_g2 (f : md_Ar) (set q : Int32) (a5 a6 a7 a8 : md_Ar) : Option (Int32 × md_S) :=
  if q ≤ 0 then some (0, q, a5, a6, a7, a8)
  else if md_ok (a8 0) 8 = true then
    (if a5 (a8 0).toNatClampNeg = 0 then
      (if md_dc f (set ||| ((1 : Int32) <<< (a8 0 &&& 31))) = 0 then none
       else match md_turn a6 8 (a8 0) a5 with
         | none => none
         | some c5 => some (1, q, c5, a6, a7, a8))
     else none)
  else none
theorem md_g2W {post : Int32 → St2 → Prop} {x1 r q' : Int32} {q : Int32} {a1 a2 a3 a4 a5 a6 a7 a8 a9 a10 a11 : Nat → Int32} {b5 b6 b7 b8 : Nat → Int32} (h : md_g2 a2 x1 q a5 a6 a7 a8 = some (r, q', b5, b6, b7, b8)) (K : post r (q', a1, a2, a3, a4, b5, b6, b7, b8, a9, a10, a11)) :
    wX_growRainbow_53 post x1 1 0 q a1 a2 a3 a4 a5 a6 a7 a8 a9 a10 a11 := by
  unfold md_g2 at h
  by_cases h1 : q ≤ 0
  · rw [if_pos h1] at h
    cases h
    exact br_t h1 K
  · rw [if_neg h1] at h
    by_cases h2 : md_ok (a8 0) 8 = true
    · rw [if_pos h2] at h
      by_cases h3 : a5 (a8 0).toNatClampNeg = 0
      · rw [if_pos h3] at h
        refine br_f h1 (br_f (by decide) ⟨pk_in 0 8 (by decide), nm_r (show a8 (0 : Int32).toNatClampNeg = a8 0 by rw [sb_cl0]) ⟨md_okI h2, br_t h3 (md_diff ?_)⟩⟩)
        by_cases h4 : md_dc a2 (x1 ||| ((1 : Int32) <<< (a8 0 &&& 31))) = 0
        · rw [if_pos h4] at h
          cases h
        · rw [if_neg h4] at h
          refine br_f h4 ?_
          cases hr : md_turn a6 8 (a8 0) a5 with
          | none =>
            rw [hr] at h
            cases h
          | some c5 =>
            rw [hr] at h
            cases h
            exact md_turnW hr K
      · rw [if_neg h3] at h
        cases h
    · rw [if_neg h2] at h
      cases h
def md_grow (rk : Int32 → Int32) (f a5 a6 a7 a8 : md_Ar) : Option (Int32 × md_S) :=
  match md_g1 rk (md_mem a5 1) 8 0 0 a5 (md_fl (-1) 8 0 a6) (md_fl 0 8 0 a7) a8 with
  | none => none
  | some (q, b5, b6, b7, b8) => md_g2 f (md_mem a5 1) q b5 b6 b7 b8
theorem md_growW {post : Int32 → St2 → Prop} {rk : Int32 → Int32} {r q' : Int32} {q : Int32} {a1 a2 a3 a4 a5 a6 a7 a8 a9 a10 a11 : Nat → Int32} {b5 b6 b7 b8 : Nat → Int32} (hR : md_RK rk a1) (h : md_grow rk a2 a5 a6 a7 a8 = some (r, q', b5, b6, b7, b8))
    (K : ∀ p', post r (q', a1, a2, a3, p', b5, b6, b7, b8, a9, a10, a11)) : wpX_growRainbow post (q, a1, a2, a3, a4, a5, a6, a7, a8, a9, a10, a11) := by
  unfold md_grow at h
  cases hg : md_g1 rk (md_mem a5 1) 8 0 0 a5 (md_fl (-1) 8 0 a6) (md_fl 0 8 0 a7) a8 with
  | none =>
    rw [hg] at h
    cases h
  | some s =>
    obtain ⟨q2, c5, c6, c7, c8⟩ := s
    rw [hg] at h
    refine md_members ?_
    refine md_start ?_
    exact ⟨9, md_g1W hR (fun p' => ⟨1, md_g2W h (K p')⟩) 8 0 0 _ _ _ _ _ rfl hg⟩
def md_rb (rk : Int32 → Int32) (f : md_Ar) : Nat → Int32 → Int32 → Int32 → md_Ar → md_Ar → md_Ar → md_Ar → Option (Int32 × md_S)
  | 0, x1, _, q, a5, a6, a7, a8 => some (x1, q, a5, a6, a7, a8)
  | k + 1, x1, x2, q, a5, a6, a7, a8 =>
    if x2 = 0 then some (x1, q, a5, a6, a7, a8)
    else match md_grow rk f a5 a6 a7 a8 with
      | none => none
      | some (r, q', b5, b6, b7, b8) => if r = 0 then md_rb rk f k (x1 + 0) r q' b5 b6 b7 b8 else md_rb rk f k (x1 + 1) r q' b5 b6 b7 b8
theorem md_rbW {post : Int32 → St2 → Prop} {rk : Int32 → Int32} {r q' : Int32} {a1 a2 a3 a9 a10 a11 b5 b6 b7 b8 : Nat → Int32} (hR : md_RK rk a1)
    (K : ∀ p', post r (q', a1, a2, a3, p', b5, b6, b7, b8, a9, a10, a11)) :
    ∀ (k i : Nat) (x1 x2 q : Int32) (a4 a5 a6 a7 a8 : Nat → Int32), i + k = 9 → md_rb rk a2 k x1 x2 q a5 a6 a7 a8 = some (r, q', b5, b6, b7, b8) → wX_rainbow_10 post (k + 1) x1 x2 (nI i) q a1 a2 a3 a4 a5 a6 a7 a8 a9 a10 a11 := by
  intro k
  induction k with
  | zero =>
    intro i x1 x2 q a4 a5 a6 a7 a8 hi h
    have h' : some (x1, q, a5, a6, a7, a8) = some (r, q', b5, b6, b7, b8) := h
    cases h'
    exact pk_le 9 i (fun _ => K a4) (fun z => absurd z (by omega))
  | succ k ih =>
    intro i x1 x2 q a4 a5 a6 a7 a8 hi h
    refine pk_le 9 i (fun z => absurd z (by omega)) (fun _ => ?_)
    rw [md_rb] at h
    by_cases h1 : x2 = 0
    · rw [if_pos h1] at h
      cases h
      exact br_t h1 (K a4)
    · rw [if_neg h1] at h
      refine br_f h1 ?_
      cases hg : md_grow rk a2 a5 a6 a7 a8 with
      | none =>
        rw [hg] at h
        cases h
      | some s =>
        obtain ⟨r2, q2, c5, c6, c7, c8⟩ := s
        rw [hg] at h
        dsimp only at h
        refine md_growW hR hg (fun p' => ?_)
        by_cases h2 : r2 = 0
        · rw [if_pos h2] at h
          exact br_t h2 (nm_e (nm_r (nI_1 i) (ih (i + 1) _ _ _ _ _ _ _ _ (by omega) h)))
        · rw [if_neg h2] at h
          exact br_f h2 (nm_e (nm_r (nI_1 i) (ih (i + 1) _ _ _ _ _ _ _ _ (by omega) h)))
theorem md_rainbow {post : Int32 → St2 → Prop} {rk : Int32 → Int32} {r q' : Int32} {q : Int32} {a1 a2 a3 a4 a5 a6 a7 a8 a9 a10 a11 : Nat → Int32} {b5 b6 b7 b8 : Nat → Int32} (hR : md_RK rk a1) (h : md_rb rk a2 9 0 1 q (md_fl 0 8 0 a5) a6 a7 a8 = some (r, q', b5, b6, b7, b8))
    (K : ∀ p', post r (q', a1, a2, a3, p', b5, b6, b7, b8, a9, a10, a11)) : wpX_rainbow post (q, a1, a2, a3, a4, a5, a6, a7, a8, a9, a10, a11) :=
  md_clear ⟨10, md_rbW hR K 9 0 0 1 q a4 _ a6 a7 a8 rfl h⟩
end
section
/-! ===== union ===== -/
def md_ric (rk : Int32 → Int32) (e : Int32) : Nat → Nat → Int32 → md_Ar → md_Ar → md_Ar → md_Ar → Option md_S
  | 0, _, q, a5, a6, a7, a8 => some (q, a5, a6, a7, a8)
  | k + 1, i, q, a5, a6, a7, a8 =>
    if a5 i ≤ 0 then md_ric rk e k (i + 1) q a5 a6 a7 a8
    else if md_ok e 8 = true then
      (if a5 i = a5 e.toNatClampNeg then md_ric rk e k (i + 1) q a5 a6 a7 a8
       else if a7 i = 0 then
         (if md_ind rk ((md_mem a5 (a5 i) ||| ((1 : Int32) <<< (e &&& 31))) &&& (((1 : Int32) <<< (nI i &&& 31)) ^^^ (-1))) = 0 then md_ric rk e k (i + 1) q a5 a6 a7 a8
          else match md_reach (nI i) e q a5 a6 a7 a8 with
            | none => none
            | some (q', b5, b6, b7, b8) => md_ric rk e k (i + 1) q' b5 b6 b7 b8)
       else md_ric rk e k (i + 1) q a5 a6 a7 a8)
    else none
theorem md_ricL {post : St2 → Prop} {rk : Int32 → Int32} {e q' : Int32} {a1 a2 a3 a9 a10 a11 b5 b6 b7 b8 : Nat → Int32} (hR : md_RK rk a1)
    (K : ∀ p', post (q', a1, a2, a3, p', b5, b6, b7, b8, a9, a10, a11)) :
    ∀ (k i : Nat) (q : Int32) (a4 a5 a6 a7 a8 : Nat → Int32), i + k = 8 → md_ric rk e k i q a5 a6 a7 a8 = some (q', b5, b6, b7, b8) → wX_reachInClasses_2 post e (k + 1) (nI i) q a1 a2 a3 a4 a5 a6 a7 a8 a9 a10 a11 := by
  intro k
  induction k with
  | zero =>
    intro i q a4 a5 a6 a7 a8 hi h
    have h' : some (q, a5, a6, a7, a8) = some (q', b5, b6, b7, b8) := h
    cases h'
    exact pk_le 8 i (fun _ => K a4) (fun z => absurd z (by omega))
  | succ k ih =>
    intro i q a4 a5 a6 a7 a8 hi h
    refine pk_le 8 i (fun z => absurd z (by omega)) (fun _ => ⟨pk_in i 8 (by omega), ?_⟩)
    rw [nI_clamp (show i < 2 ^ 31 by omega)]
    rw [md_ric] at h
    by_cases h1 : a5 i ≤ 0
    · rw [if_pos h1] at h
      exact br_t h1 (nm_r (nI_1 i) (ih (i + 1) _ _ _ _ _ _ (by omega) h))
    · rw [if_neg h1] at h
      by_cases h2 : md_ok e 8 = true
      · rw [if_pos h2] at h
        refine br_f h1 ⟨pk_in i 8 (by omega), md_okI h2, ?_⟩
        by_cases h3 : a5 i = a5 e.toNatClampNeg
        · rw [if_pos h3] at h
          exact br_t h3 (nm_r (nI_1 i) (ih (i + 1) _ _ _ _ _ _ (by omega) h))
        · rw [if_neg h3] at h
          refine br_f h3 ⟨pk_in i 8 (by omega), ?_⟩
          by_cases h4 : a7 i = 0
          · rw [if_pos h4] at h
            refine br_t h4 ⟨pk_in i 8 (by omega), md_members (md_isInd hR (fun p' => ?_))⟩
            by_cases h5 : md_ind rk ((md_mem a5 (a5 i) ||| ((1 : Int32) <<< (e &&& 31))) &&& (((1 : Int32) <<< (nI i &&& 31)) ^^^ (-1))) = 0
            · rw [if_pos h5] at h
              exact br_t h5 (nm_r (nI_1 i) (ih (i + 1) _ _ _ _ _ _ (by omega) h))
            · rw [if_neg h5] at h
              refine br_f h5 ?_
              cases hr : md_reach (nI i) e q a5 a6 a7 a8 with
              | none =>
                rw [hr] at h
                cases h
              | some s =>
                obtain ⟨q2, c5, c6, c7, c8⟩ := s
                rw [hr] at h
                exact md_reachW hr (nm_r (nI_1 i) (ih (i + 1) _ _ _ _ _ _ (by omega) h))
          · rw [if_neg h4] at h
            exact br_f h4 (nm_r (nI_1 i) (ih (i + 1) _ _ _ _ _ _ (by omega) h))
      · rw [if_neg h2] at h
        cases h
theorem md_ricW {post : St2 → Prop} {rk : Int32 → Int32} {e q' : Int32} {q : Int32} {a1 a2 a3 a4 a5 a6 a7 a8 a9 a10 a11 : Nat → Int32} {b5 b6 b7 b8 : Nat → Int32} (hR : md_RK rk a1) (h : md_ric rk e 8 0 q a5 a6 a7 a8 = some (q', b5, b6, b7, b8))
    (K : ∀ p', post (q', a1, a2, a3, p', b5, b6, b7, b8, a9, a10, a11)) : wpX_reachInClasses post (q, a1, a2, a3, a4, a5, a6, a7, a8, a9, a10, a11) e := ⟨9, md_ricL hR K 8 0 q a4 a5 a6 a7 a8 rfl h⟩
/-- the element fits into the set number c: 1, else 0 -/
def md_fit (rk : Int32 → Int32) (e c : Int32) (a5 : md_Ar) : Int32 := if a5 e.toNatClampNeg = c then 0 else md_ind rk (md_mem a5 c ||| ((1 : Int32) <<< (e &&& 31)))
def md_put (q e c : Int32) (a5 a6 a7 a8 : md_Ar) : Option (Int32 × md_S) :=
  match md_push a6 8 e c a5 with
  | none => none
  | some b5 => some (1, q, b5, a6, a7, a8)
theorem md_p36 {post : Int32 → St2 → Prop} {J : Int32 → Int32 → (Nat → Int32) → (Nat → Int32) → (Nat → Int32) → (Nat → Int32) → (Nat → Int32) → (Nat → Int32) → (Nat → Int32) → (Nat → Int32) → (Nat → Int32) → (Nat → Int32) → (Nat → Int32) → Prop}
    {rk : Int32 → Int32} {x2 e c c' : Int32} {n : Nat} {q : Int32} {a1 a2 a3 a4 a5 a6 a7 a8 a9 a10 a11 : Nat → Int32} (hR : md_RK rk a1) (he : md_ok e 8 = true) (hc : ¬ 3 ≤ c) (hcc : c + 1 = c')
    (H0 : md_fit rk e c a5 = 0 → ∀ p', wX_place_36 post J x2 e n c' q a1 a2 a3 p' a5 a6 a7 a8 a9 a10 a11)
    (H1 : ¬ md_fit rk e c a5 = 0 → ∃ b5, md_push a6 8 e c a5 = some b5 ∧ ∀ p', post 1 (q, a1, a2, a3, p', b5, a6, a7, a8, a9, a10, a11)) : wX_place_36 post J x2 e (n + 1) c q a1 a2 a3 a4 a5 a6 a7 a8 a9 a10 a11 := by
  refine br_f hc (md_members ⟨md_okI he, ?_⟩)
  by_cases h : a5 e.toNatClampNeg = c
  · exact br_t h (nm_r hcc (H0 (if_pos h) a4))
  · refine br_f h (md_isInd hR (fun p' => ?_))
    by_cases g : md_ind rk (md_mem a5 c ||| ((1 : Int32) <<< (e &&& 31))) = 0
    · exact br_t g (nm_r hcc (H0 ((if_neg h).trans g) p'))
    · obtain ⟨b5, hb, K⟩ := H1 (fun z => g ((if_neg h).symm.trans z))
      exact br_f g (md_pushW hb (K p'))
def md_pl (rk : Int32 → Int32) : Nat → Nat → Int32 → md_Ar → md_Ar → md_Ar → md_Ar → Option (Int32 × md_S)
  | 0, _, q, a5, a6, a7, a8 => some (0, q, a5, a6, a7, a8)
  | k + 1, i, q, a5, a6, a7, a8 =>
    if q ≤ nI i then some (0, q, a5, a6, a7, a8)
    else if md_ok (a8 i) 8 = true then
      (if md_fit rk (a8 i) 1 a5 = 0 then
        (if md_fit rk (a8 i) 2 a5 = 0 then
          (match md_ric rk (a8 i) 8 0 q a5 a6 a7 a8 with
            | none => none
            | some (q', b5, b6, b7, b8) => md_pl rk k (i + 1) q' b5 b6 b7 b8)
         else md_put q (a8 i) 2 a5 a6 a7 a8)
       else md_put q (a8 i) 1 a5 a6 a7 a8)
    else none
theorem md_putW {q e c r q' : Int32} {a5 a6 a7 a8 b5 b6 b7 b8 : md_Ar} (h : md_put q e c a5 a6 a7 a8 = some (r, q', b5, b6, b7, b8)) : md_push a6 8 e c a5 = some b5 ∧ r = 1 ∧ q' = q ∧ b6 = a6 ∧ b7 = a7 ∧ b8 = a8 := by
  unfold md_put at h
  cases hp : md_push a6 8 e c a5 with
  | none =>
    rw [hp] at h
    cases h
  | some c5 =>
    rw [hp] at h
    cases h
    exact ⟨rfl, rfl, rfl, rfl, rfl, rfl⟩
theorem md_plW {post : Int32 → St2 → Prop} {rk : Int32 → Int32} {r q' : Int32} {a1 a2 a3 a9 a10 a11 b5 b6 b7 b8 : Nat → Int32} (hR : md_RK rk a1)
    (K : ∀ p', post r (q', a1, a2, a3, p', b5, b6, b7, b8, a9, a10, a11)) :
    ∀ (k i : Nat) (q : Int32) (a4 a5 a6 a7 a8 : Nat → Int32), i + k = 8 → md_pl rk k i q a5 a6 a7 a8 = some (r, q', b5, b6, b7, b8) → wX_place_12 post (k + 1) (nI i) q a1 a2 a3 a4 a5 a6 a7 a8 a9 a10 a11 := by
  intro k
  induction k with
  | zero =>
    intro i q a4 a5 a6 a7 a8 hi h
    have h' : some ((0 : Int32), q, a5, a6, a7, a8) = some (r, q', b5, b6, b7, b8) := h
    cases h'
    exact br_c (fun _ => K a4) (fun _ => pk_le 8 i (fun _ => K a4) (fun z => absurd z (by omega)))
  | succ k ih =>
    intro i q a4 a5 a6 a7 a8 hi h
    rw [md_pl] at h
    by_cases h1 : q ≤ nI i
    · rw [if_pos h1] at h
      cases h
      exact br_t h1 (K a4)
    · rw [if_neg h1] at h
      by_cases h2 : md_ok (a8 i) 8 = true
      · rw [if_pos h2] at h
        refine br_f h1 (pk_le 8 i (fun z => absurd z (by omega)) (fun _ => ⟨pk_in i 8 (by omega), nm_r (show a8 (nI i).toNatClampNeg = a8 i by rw [nI_clamp (show i < 2 ^ 31 by omega)]) ⟨3, ?_⟩⟩))
        refine md_p36 hR h2 (by decide) (c' := 2) rfl (fun f1 p1 => ?_) (fun f1 => ?_)
        · rw [if_pos f1] at h
          refine md_p36 hR h2 (by decide) (c' := 3) rfl (fun f2 p2 => ?_) (fun f2 => ?_)
          · rw [if_pos f2] at h
            cases hr : md_ric rk (a8 i) 8 0 q a5 a6 a7 a8 with
            | none =>
              rw [hr] at h
              cases h
            | some s =>
              obtain ⟨q2, c5, c6, c7, c8⟩ := s
              rw [hr] at h
              exact br_t (by decide) (md_ricW hR hr (fun p' => nm_r (nI_1 i) (ih (i + 1) _ _ _ _ _ _ (by omega) h)))
          · rw [if_neg f2] at h
            obtain ⟨e0, e1, e2, e3, e4, e5⟩ := md_putW h
            subst e1 e2 e3 e4 e5
            exact ⟨b5, e0, K⟩
        · rw [if_neg f1] at h
          obtain ⟨e0, e1, e2, e3, e4, e5⟩ := md_putW h
          subst e1 e2 e3 e4 e5
          exact ⟨b5, e0, K⟩
      · rw [if_neg h2] at h
        cases h
def md_place (rk : Int32 → Int32) (e : Int32) (a5 a6 a7 a8 : md_Ar) : Option (Int32 × md_S) :=
  match md_reach e (-1) 0 a5 (md_fl (-1) 8 0 a6) (md_fl 0 8 0 a7) a8 with
  | none => none
  | some (q, b5, b6, b7, b8) => md_pl rk 8 0 q b5 b6 b7 b8
theorem md_placeW {post : Int32 → St2 → Prop} {rk : Int32 → Int32} {e r q' : Int32} {q : Int32} {a1 a2 a3 a4 a5 a6 a7 a8 a9 a10 a11 : Nat → Int32} {b5 b6 b7 b8 : Nat → Int32} (hR : md_RK rk a1) (h : md_place rk e a5 a6 a7 a8 = some (r, q', b5, b6, b7, b8))
    (K : ∀ p', post r (q', a1, a2, a3, p', b5, b6, b7, b8, a9, a10, a11)) : wpX_place post (q, a1, a2, a3, a4, a5, a6, a7, a8, a9, a10, a11) e := by
  unfold md_place at h
  cases hr : md_reach e (-1) 0 a5 (md_fl (-1) 8 0 a6) (md_fl 0 8 0 a7) a8 with
  | none =>
    rw [hr] at h
    cases h
  | some s =>
    obtain ⟨q2, c5, c6, c7, c8⟩ := s
    rw [hr] at h
    refine md_start (q := q) ?_
    exact md_reachW hr ⟨9, md_plW hR K 8 0 _ _ _ _ _ _ rfl h⟩
def md_un (rk : Int32 → Int32) : Nat → Nat → Int32 → Int32 → md_Ar → md_Ar → md_Ar → md_Ar → Option (Int32 × md_S)
  | 0, _, x1, q, a5, a6, a7, a8 => some (x1, q, a5, a6, a7, a8)
  | k + 1, i, x1, q, a5, a6, a7, a8 =>
    match md_place rk (nI i) a5 a6 a7 a8 with
    | none => none
    | some (r, q', b5, b6, b7, b8) => if r = 0 then md_un rk k (i + 1) (x1 + 0) q' b5 b6 b7 b8 else md_un rk k (i + 1) (x1 + 1) q' b5 b6 b7 b8
theorem md_unW {post : Int32 → St2 → Prop} {rk : Int32 → Int32} {r q' : Int32} {a1 a2 a3 a9 a10 a11 b5 b6 b7 b8 : Nat → Int32} (hR : md_RK rk a1)
    (K : ∀ p', post r (q', a1, a2, a3, p', b5, b6, b7, b8, a9, a10, a11)) :
    ∀ (k i : Nat) (x1 q : Int32) (a4 a5 a6 a7 a8 : Nat → Int32), i + k = 8 → md_un rk k i x1 q a5 a6 a7 a8 = some (r, q', b5, b6, b7, b8) → wX_union_8 post (k + 1) x1 (nI i) q a1 a2 a3 a4 a5 a6 a7 a8 a9 a10 a11 := by
  intro k
  induction k with
  | zero =>
    intro i x1 q a4 a5 a6 a7 a8 hi h
    have h' : some (x1, q, a5, a6, a7, a8) = some (r, q', b5, b6, b7, b8) := h
    cases h'
    exact pk_le 8 i (fun _ => K a4) (fun z => absurd z (by omega))
  | succ k ih =>
    intro i x1 q a4 a5 a6 a7 a8 hi h
    refine pk_le 8 i (fun z => absurd z (by omega)) (fun _ => ?_)
    rw [md_un] at h
    cases hg : md_place rk (nI i) a5 a6 a7 a8 with
    | none =>
      rw [hg] at h
      cases h
    | some s =>
      obtain ⟨r2, q2, c5, c6, c7, c8⟩ := s
      rw [hg] at h
      dsimp only at h
      refine md_placeW hR hg (fun p' => ?_)
      by_cases h2 : r2 = 0
      · rw [if_pos h2] at h
        exact br_t h2 (nm_e (nm_r (nI_1 i) (ih (i + 1) _ _ _ _ _ _ _ (by omega) h)))
      · rw [if_neg h2] at h
        exact br_f h2 (nm_e (nm_r (nI_1 i) (ih (i + 1) _ _ _ _ _ _ _ (by omega) h)))
theorem md_union {post : Int32 → St2 → Prop} {rk : Int32 → Int32} {r q' : Int32} {q : Int32} {a1 a2 a3 a4 a5 a6 a7 a8 a9 a10 a11 : Nat → Int32} {b5 b6 b7 b8 : Nat → Int32} (hR : md_RK rk a1) (h : md_un rk 8 0 0 q (md_fl 0 8 0 a5) a6 a7 a8 = some (r, q', b5, b6, b7, b8))
    (K : ∀ p', post r (q', a1, a2, a3, p', b5, b6, b7, b8, a9, a10, a11)) : wpX_union post (q, a1, a2, a3, a4, a5, a6, a7, a8, a9, a10, a11) :=
  md_clear ⟨9, md_unW hR K 8 0 0 q a4 _ a6 a7 a8 rfl h⟩
end
section
/-! ===== the polynomial and the circuits ===== -/
def md_lp (rk : Int32 → Int32) (e s : Int32) : Int32 := if rk (s ||| ((1 : Int32) <<< (e &&& 31))) = rk s then 1 else 0
theorem md_isLoop {post : Int32 → St2 → Prop} {q : Int32} {a1 a2 a3 a4 a5 a6 a7 a8 a9 a10 a11 : Nat → Int32} {rk : Int32 → Int32} {e s : Int32} (hR : md_RK rk a1) (K : ∀ p', post (md_lp rk e s) (q, a1, a2, a3, p', a5, a6, a7, a8, a9, a10, a11)) : wpX_isLoop post (q, a1, a2, a3, a4, a5, a6, a7, a8, a9, a10, a11) e s := by
  refine hR _ q a2 a3 a4 a5 a6 a7 a8 a9 a10 a11 s (fun p1 => ?_)
  refine hR _ q a2 a3 p1 a5 a6 a7 a8 a9 a10 a11 _ (fun p2 => ?_)
  exact md_ic (P := fun r => post r (q, a1, a2, a3, p2, a5, a6, a7, a8, a9, a10, a11)) (K p2) id id
def md_be (e : Int32) : Int32 := 255 &&& ((((1 : Int32) <<< ((e + 1) &&& 31)) - 1) ^^^ (-1))
def md_br (rk : Int32 → Int32) (e s : Int32) : Int32 := if rk ((s ||| md_be e) ||| ((1 : Int32) <<< (e &&& 31))) ≤ rk (s ||| md_be e) then 0 else 1
theorem md_isBridge {post : Int32 → St2 → Prop} {q : Int32} {a1 a2 a3 a4 a5 a6 a7 a8 a9 a10 a11 : Nat → Int32} {rk : Int32 → Int32} {e s : Int32} (hR : md_RK rk a1) (K : ∀ p', post (md_br rk e s) (q, a1, a2, a3, p', a5, a6, a7, a8, a9, a10, a11)) : wpX_isBridge post (q, a1, a2, a3, a4, a5, a6, a7, a8, a9, a10, a11) e s := by
  refine nm_r (show _ = md_be e from rfl) ?_
  refine hR _ q a2 a3 a4 a5 a6 a7 a8 a9 a10 a11 _ (fun p1 => ?_)
  refine hR _ q a2 a3 p1 a5 a6 a7 a8 a9 a10 a11 _ (fun p2 => ?_)
  exact md_ic (P := fun r => post r (q, a1, a2, a3, p2, a5, a6, a7, a8, a9, a10, a11)) (K p2) id id
theorem md_pushP {post : Int32 → St2 → Prop} {q : Int32} {a1 a2 a3 a4 a5 a6 a7 a8 a9 a10 a11 : Nat → Int32} {k : Nat} {x s f : Int32} (hk : k < 12) (K : post (nI (k + 1)) (q, a1, a2, a3, a4, a5, a6, a7, a8, (upd a9 k x), (upd a10 k s), (upd a11 k f))) : wpX_pushPart post (q, a1, a2, a3, a4, a5, a6, a7, a8, a9, a10, a11) (nI k) x s f := by
  have e : ∀ (g : Nat → Int32) (y : Int32), upd g (nI k).toNatClampNeg y = upd g k y := fun g y => by rw [nI_clamp (show k < 2 ^ 31 by omega)]
  refine ⟨pk_in k 12 hk, nm_r (e a9 x) ⟨pk_in k 12 hk, nm_r (e a10 s) ⟨pk_in k 12 hk, nm_r (e a11 f) ?_⟩⟩⟩
  rw [nI_1]
  exact K
/-- the parts that wait: next element, elements contracted, factor; the last one first -/
def md_Stk : List (Nat × Int32 × Int32) → md_Ar → md_Ar → md_Ar → Prop
  | [], _, _, _ => True
  | (e, s, f) :: t, a9, a10, a11 => a9 t.length = nI e ∧ a10 t.length = s ∧ a11 t.length = f ∧ md_Stk t a9 a10 a11
theorem md_StkU {a9 a10 a11 : md_Ar} {n : Nat} {x y z : Int32} : ∀ (l : List (Nat × Int32 × Int32)), l.length ≤ n → md_Stk l a9 a10 a11 → md_Stk l (upd a9 n x) (upd a10 n y) (upd a11 n z) := by
  intro l
  induction l with
  | nil => exact fun _ _ => trivial
  | cons p t ih =>
    obtain ⟨e, s, f⟩ := p
    intro hn h
    have hn' : t.length + 1 ≤ n := hn
    obtain ⟨h1, h2, h3, h4⟩ := h
    have ne : t.length ≠ n := by omega
    exact ⟨(pk_un ne).trans h1, (pk_un ne).trans h2, (pk_un ne).trans h3, ih (by omega) h4⟩
theorem md_StkP {a9 a10 a11 : md_Ar} {l : List (Nat × Int32 × Int32)} {e : Nat} {s f : Int32} (h : md_Stk l a9 a10 a11) : md_Stk ((e + 1, s, f) :: l) (upd a9 l.length (nI e + 1)) (upd a10 l.length s) (upd a11 l.length f) :=
  ⟨pk_us.trans (nI_1 e), pk_us, pk_us, md_StkU l (Nat.le_refl _) h⟩
def md_po (rk : Int32 → Int32) (x y : Int32) : Nat → List (Nat × Int32 × Int32) → Int32 → Option Int32
  | 0, _, _ => none
  | _ + 1, [], tot => some tot
  | n + 1, (e, s, f) :: t, tot =>
    if 10 < t.length then none
    else if nI e = 8 then md_po rk x y n t (tot + f)
    else if md_lp rk (nI e) s = 0 then
      (if md_br rk (nI e) s = 0 then md_po rk x y n ((e + 1, s ||| ((1 : Int32) <<< (nI e &&& 31)), f) :: (e + 1, s, f) :: t) tot
       else md_po rk x y n ((e + 1, s ||| ((1 : Int32) <<< (nI e &&& 31)), f * x) :: t) tot)
    else md_po rk x y n ((e + 1, s, f * y) :: t) tot
theorem md_poW {post : Int32 → St2 → Prop} {rk : Int32 → Int32} {x y r : Int32} {q : Int32} {a1 a2 a3 a5 a6 a7 a8 : Nat → Int32} (hR : md_RK rk a1)
    (K : ∀ p' b9 b10 b11, post r (q, a1, a2, a3, p', a5, a6, a7, a8, b9, b10, b11)) :
    ∀ (n i : Nat) (l : List (Nat × Int32 × Int32)) (tot : Int32) (a4 a9 a10 a11 : Nat → Int32), i + n ≤ 600 → md_Stk l a9 a10 a11 → md_po rk x y n l tot = some r → wX_polynomial_29 post x y n (nI l.length) tot (nI i) q a1 a2 a3 a4 a5 a6 a7 a8 a9 a10 a11 := by
  intro n
  induction n with
  | zero =>
    intro i l tot a4 a9 a10 a11 hi hS h
    have h' : (none : Option Int32) = some r := by
      cases l <;> exact h
    cases h'
  | succ n ih =>
    intro i l tot a4 a9 a10 a11 hi hS h
    refine pk_le 600 i (fun z => absurd z (by omega)) (fun _ => ?_)
    cases l with
    | nil =>
      have h' : some tot = some r := h
      cases h'
      exact br_t (by decide) (K a4 a9 a10 a11)
    | cons p t =>
      obtain ⟨e, s, f⟩ := p
      obtain ⟨k1, k2, k3, k4⟩ := hS
      rw [md_po] at h
      by_cases hl : 10 < t.length
      · rw [if_pos hl] at h
        cases h
      · rw [if_neg hl] at h
        have cl : (nI t.length).toNatClampNeg = t.length := nI_clamp (by omega)
        refine br_f (show ¬ nI (t.length + 1) ≤ 0 from nI_nle (by omega) (by omega)) (nm_r (pk_m1 t.length) ⟨pk_in t.length 12 (by omega), nm_r (show a9 (nI t.length).toNatClampNeg = nI e by rw [cl]; exact k1) ⟨pk_in t.length 12 (by omega), nm_r (show a10 (nI t.length).toNatClampNeg = s by rw [cl]; exact k2) ⟨pk_in t.length 12 (by omega), nm_r (show a11 (nI t.length).toNatClampNeg = f by rw [cl]; exact k3) ?_⟩⟩⟩)
        by_cases h8 : nI e = 8
        · rw [if_pos h8] at h
          exact br_t h8 (nm_e (nm_r (nI_1 i) (ih (i + 1) t _ _ _ _ _ (by omega) k4 h)))
        · rw [if_neg h8] at h
          refine br_f h8 (md_isLoop hR (fun p1 => ?_))
          by_cases hlp : md_lp rk (nI e) s = 0
          · rw [if_pos hlp] at h
            refine br_t hlp (md_isBridge hR (fun p2 => ?_))
            by_cases hbr : md_br rk (nI e) s = 0
            · rw [if_pos hbr] at h
              refine br_t hbr (md_pushP (by omega) (md_pushP (by omega) (nm_r (nI_1 i) ?_)))
              exact ih (i + 1) _ _ _ _ _ _ (by omega) (md_StkP (l := (e + 1, s, f) :: t) (md_StkP k4)) h
            · rw [if_neg hbr] at h
              refine br_f hbr (md_pushP (by omega) (nm_r (nI_1 i) ?_))
              exact ih (i + 1) _ _ _ _ _ _ (by omega) (md_StkP k4) h
          · rw [if_neg hlp] at h
            refine br_f hlp (md_pushP (by omega) (nm_r (nI_1 i) ?_))
            exact ih (i + 1) _ _ _ _ _ _ (by omega) (md_StkP k4) h
theorem md_poly {post : Int32 → St2 → Prop} {q : Int32} {a1 a2 a3 a4 a5 a6 a7 a8 a9 a10 a11 : Nat → Int32} {rk : Int32 → Int32} {x y r : Int32} (hR : md_RK rk a1) (h : md_po rk x y 100 [(0, 0, 1)] 0 = some r)
    (K : ∀ p' b9 b10 b11, post r (q, a1, a2, a3, p', a5, a6, a7, a8, b9, b10, b11)) : wpX_polynomial post (q, a1, a2, a3, a4, a5, a6, a7, a8, a9, a10, a11) x y :=
  nm_e (nm_e (nm_e ⟨100, md_poW hR K 100 0 [(0, 0, 1)] 0 _ _ _ _ (by omega) ⟨pk_us, pk_us, pk_us, trivial⟩ h⟩))
theorem md_bases {post : Int32 → St2 → Prop} {q : Int32} {a1 a2 a3 a4 a5 a6 a7 a8 a9 a10 a11 : Nat → Int32} {rk : Int32 → Int32} {r : Int32} (hR : md_RK rk a1) (h : md_po rk 1 1 100 [(0, 0, 1)] 0 = some r)
    (K : ∀ p' b9 b10 b11, post r (q, a1, a2, a3, p', a5, a6, a7, a8, b9, b10, b11)) : wpX_bases post (q, a1, a2, a3, a4, a5, a6, a7, a8, a9, a10, a11) :=
  md_poly hR h K
def md_cc (rk cn : Int32 → Int32) : Nat → Nat → Int32 → Int32
  | 0, _, s => s
  | k + 1, i, s => if cn (nI i) = 0 then md_cc rk cn k (i + 1) s else if rk (nI i) = md_sz (nI i) - 1 then md_cc rk cn k (i + 1) (s + 1) else md_cc rk cn k (i + 1) s
theorem md_ccW {post : Int32 → St2 → Prop} {rk cn : Int32 → Int32} {q : Int32} {a1 a2 a3 a5 a6 a7 a8 a9 a10 a11 : Nat → Int32} (hR : md_RK rk a1) (hC : md_CN cn a1) :
    ∀ (k i : Nat) (s : Int32) (a4 : Nat → Int32), i + k = 256 → (∀ p', post (md_cc rk cn k i s) (q, a1, a2, a3, p', a5, a6, a7, a8, a9, a10, a11)) → wX_circuits_4 post (k + 1) s (nI i) q a1 a2 a3 a4 a5 a6 a7 a8 a9 a10 a11 := by
  intro k
  induction k with
  | zero =>
    intro i s a4 hi H
    exact pk_le 256 i (fun _ => H a4) (fun z => absurd z (by omega))
  | succ k ih =>
    intro i s a4 hi H
    refine pk_le 256 i (fun z => absurd z (by omega)) (fun _ => hC _ q a2 a3 a4 a5 a6 a7 a8 a9 a10 a11 (nI i) ?_)
    rw [md_cc] at H
    by_cases h1 : cn (nI i) = 0
    · rw [if_pos h1] at H
      exact br_t h1 (nm_r (nI_1 i) (ih (i + 1) _ _ (by omega) H))
    · rw [if_neg h1] at H
      refine br_f h1 (hR _ q a2 a3 a4 a5 a6 a7 a8 a9 a10 a11 (nI i) (fun p' => md_size ?_))
      by_cases h2 : rk (nI i) = md_sz (nI i) - 1
      · rw [if_pos h2] at H
        exact br_t h2 (nm_e (nm_r (nI_1 i) (ih (i + 1) _ _ (by omega) H)))
      · rw [if_neg h2] at H
        exact br_f h2 (nm_r (nI_1 i) (ih (i + 1) _ _ (by omega) H))
theorem md_circ {post : Int32 → St2 → Prop} {rk cn : Int32 → Int32} {q : Int32} {a1 a2 a3 a4 a5 a6 a7 a8 a9 a10 a11 : Nat → Int32} (hR : md_RK rk a1) (hC : md_CN cn a1) (K : ∀ p', post (md_cc rk cn 255 1 0) (q, a1, a2, a3, p', a5, a6, a7, a8, a9, a10, a11)) : wpX_circuits post (q, a1, a2, a3, a4, a5, a6, a7, a8, a9, a10, a11) :=
  ⟨256, md_ccW hR hC 255 1 0 a4 rfl K⟩
/-! making -/
def md_col : Nat → Nat → md_Ar → md_Ar
  | 0, _, f => f
  | k + 1, i, f => md_col k (i + 1) (upd f i (nI i))
theorem md_inL {post : St2 → Prop} {mc ms kc ks : Nat} {q : Int32} {a1 a3 a4 a5 a6 a7 a8 a9 a10 a11 : Nat → Int32} : ∀ (k i : Nat) (a2 : Nat → Int32), i + k = 8 → post (q, a1, (md_col k i a2), a3, a4, a5, a6, a7, a8, a9, a10, a11) → wX_init_93 post mc ms kc ks q (k + 1) (nI i) a1 a2 a3 a4 a5 a6 a7 a8 a9 a10 a11 := by
  intro k
  induction k with
  | zero =>
    intro i a2 hi H
    exact pk_le 8 i (fun _ => H) (fun z => absurd z (by omega))
  | succ k ih =>
    intro i a2 hi H
    exact pk_le 8 i (fun z => absurd z (by omega)) (fun _ => ⟨pk_in i 8 (by omega), nm_r (show upd a2 (nI i).toNatClampNeg (nI i) = upd a2 i (nI i) by rw [nI_clamp (show i < 2 ^ 31 by omega)]) (nm_r (nI_1 i) (ih (i + 1) _ (by omega) H))⟩)
def md_z : md_Ar := fun _ => 0
theorem md_init {post : St2 → Prop} {mc ms : Nat} {q : Int32} (hc : 11 ≤ mc) (hs : 97 ≤ ms) (K : post (q, md_z, md_col 8 0 md_z, md_z, md_z, md_z, md_z, md_z, md_z, md_z, md_z, md_z)) : wpX_init post mc ms q :=
  ⟨by omega, by omega, by omega, by omega, by omega, by omega, by omega, by omega, by omega, by omega, by omega, by omega, by omega, by omega, by omega, by omega, by omega, by omega, by omega, by omega, by omega, by omega, ⟨9, md_inL 8 0 md_z rfl K⟩⟩
end
section
/-! ===== what the law expects, of three numbers ===== -/
def md_n (a b c : Int32) : Int32 := ((if a = 0 then 0 else 1) + (if b = 0 then 0 else 1)) + (if c = 0 then 0 else 1)
def md_pr (x y : Int32) : Int32 := if x = 0 then 0 else if y = 0 then 0 else if x = y then 0 else 1
def md_ps (a b c : Int32) : Int32 := (md_pr a b + md_pr a c) + md_pr b c
def md_th (a b c : Int32) : Int32 := if md_ps a b c = 3 then (if a ^^^ b = c then 0 else 1) else 0
def md_rr (a b c : Int32) : Int32 := if md_th a b c = 0 then (if md_ps a b c ≤ 0 then (if md_n a b c ≤ 0 then 0 else 1) else 2) else 3
def md_bs (a b c : Int32) : Int32 := if md_th a b c = 0 then (if md_ps a b c ≤ 0 then (if md_n a b c ≤ 0 then 1 else md_n a b c) else md_ps a b c) else 1
def md_q (x y : Int32) : Int32 := if x = 0 then 0 else if x = y then 1 else 0
def md_eq (a b c : Int32) : Int32 := (md_q a b + md_q a c) + md_q b c
def md_ci (a b c : Int32) : Int32 := ((8 - md_n a b c) + md_eq a b c) + (if md_ps a b c = 3 then (if md_th a b c = 0 then 1 else 0) else 0)
def md_uu (a b c : Int32) : Int32 := if md_n a b c ≤ 2 * md_rr a b c then md_n a b c else 2 * md_rr a b c
/-! everything depends on seven conditions -/
def md_H (a b c x y z : Int32) : Prop := (a = 0 ↔ x = 0) ∧ (b = 0 ↔ y = 0) ∧ (c = 0 ↔ z = 0) ∧ (a = b ↔ x = y) ∧ (a = c ↔ x = z) ∧ (b = c ↔ y = z) ∧ (a ^^^ b = c ↔ x ^^^ y = z)
theorem md_Hz1 {a b c x y z : Int32} (h : md_H a b c x y z) : md_H 0 b c 0 y z := by
  obtain ⟨h1, h2, h3, h4, h5, h6, h7⟩ := h
  refine ⟨Iff.rfl, h2, h3, ⟨fun t => (h2.mp t.symm).symm, fun t => (h2.mpr t.symm).symm⟩, ⟨fun t => (h3.mp t.symm).symm, fun t => (h3.mpr t.symm).symm⟩, h6, ?_⟩
  rw [Int32.zero_xor, Int32.zero_xor]
  exact h6
theorem md_Hz2 {a b c x y z : Int32} (h : md_H a b c x y z) : md_H a 0 c x 0 z := by
  obtain ⟨h1, h2, h3, h4, h5, h6, h7⟩ := h
  refine ⟨h1, Iff.rfl, h3, h1, h5, ⟨fun t => (h3.mp t.symm).symm, fun t => (h3.mpr t.symm).symm⟩, ?_⟩
  rw [Int32.xor_zero, Int32.xor_zero]
  exact h5
theorem md_Hz3 {a b c x y z : Int32} (h : md_H a b c x y z) : md_H a b 0 x y 0 := by
  obtain ⟨h1, h2, h3, h4, h5, h6, h7⟩ := h
  refine ⟨h1, h2, Iff.rfl, h4, h1, h2, ?_⟩
  rw [Int32.xor_eq_zero_iff, Int32.xor_eq_zero_iff]
  exact h4
theorem md_Hon {a b c x y z : Int32} (h : md_H a b c x y z) (s : Int32) : md_H (md_oI s 0 a) (md_oI s 3 b) (md_oI s 7 c) (md_oI s 0 x) (md_oI s 3 y) (md_oI s 7 z) := by
  have h1 : md_H (md_oI s 0 a) b c (md_oI s 0 x) y z := by
    unfold md_oI
    by_cases t : md_bt s (nI 0)
    · rw [if_pos t, if_pos t]
      exact md_Hz1 h
    · rw [if_neg t, if_neg t]
      exact h
  have h2 : md_H (md_oI s 0 a) (md_oI s 3 b) c (md_oI s 0 x) (md_oI s 3 y) z := by
    rw [show md_oI s 3 b = if md_bt s (nI 3) then 0 else b from rfl, show md_oI s 3 y = if md_bt s (nI 3) then 0 else y from rfl]
    by_cases t : md_bt s (nI 3)
    · rw [if_pos t, if_pos t]
      exact md_Hz2 h1
    · rw [if_neg t, if_neg t]
      exact h1
  rw [show md_oI s 7 c = if md_bt s (nI 7) then 0 else c from rfl, show md_oI s 7 z = if md_bt s (nI 7) then 0 else z from rfl]
  by_cases t : md_bt s (nI 7)
  · rw [if_pos t, if_pos t]
    exact md_Hz3 h2
  · rw [if_neg t, if_neg t]
    exact h2
theorem md_HR {a b c x y z : Int32} (h : md_H a b c x y z) : md_R a b c = md_R x y z := by
  funext s
  obtain ⟨h1, h2, h3, h4, h5, h6, h7⟩ := md_Hon h s
  unfold md_R md_r3
  simp only [h1, h2, h3, h4, h5, h6, h7]
theorem md_Hcn {a b c x y z : Int32} (h : md_H a b c x y z) : md_cn a b c = md_cn x y z := by
  funext s
  obtain ⟨h1, h2, h3, h4, h5, h6, h7⟩ := md_Hon h s
  unfold md_cn
  simp only [h7]
theorem md_Hn {a b c x y z : Int32} (h : md_H a b c x y z) : md_n a b c = md_n x y z := by
  obtain ⟨h1, h2, h3, h4, h5, h6, h7⟩ := h
  unfold md_n
  simp only [h1, h2, h3]
theorem md_Hps {a b c x y z : Int32} (h : md_H a b c x y z) : md_ps a b c = md_ps x y z := by
  obtain ⟨h1, h2, h3, h4, h5, h6, h7⟩ := h
  unfold md_ps md_pr
  simp only [h1, h2, h3, h4, h5, h6]
theorem md_Hth {a b c x y z : Int32} (h : md_H a b c x y z) : md_th a b c = md_th x y z := by
  unfold md_th
  simp only [md_Hps h, h.2.2.2.2.2.2]
theorem md_Heq {a b c x y z : Int32} (h : md_H a b c x y z) : md_eq a b c = md_eq x y z := by
  obtain ⟨h1, h2, h3, h4, h5, h6, h7⟩ := h
  unfold md_eq md_q
  simp only [h1, h2, h4, h5, h6]
theorem md_Hrr {a b c x y z : Int32} (h : md_H a b c x y z) : md_rr a b c = md_rr x y z := by
  unfold md_rr
  rw [md_Hth h, md_Hps h, md_Hn h]
theorem md_Hbs {a b c x y z : Int32} (h : md_H a b c x y z) : md_bs a b c = md_bs x y z := by
  unfold md_bs
  rw [md_Hth h, md_Hps h, md_Hn h]
theorem md_Hci {a b c x y z : Int32} (h : md_H a b c x y z) : md_ci a b c = md_ci x y z := by
  unfold md_ci
  rw [md_Hth h, md_Hps h, md_Hn h, md_Heq h]
theorem md_Huu {a b c x y z : Int32} (h : md_H a b c x y z) : md_uu a b c = md_uu x y z := by
  unfold md_uu
  rw [md_Hn h, md_Hrr h]
/-! the sixteen kinds -/
def md_reps : List (Int32 × Int32 × Int32) := [(0, 0, 0), (0, 0, 1), (0, 1, 0), (0, 1, 1), (0, 1, 2), (1, 0, 0), (1, 0, 1), (1, 0, 2), (1, 1, 0), (1, 1, 1), (1, 1, 2), (1, 2, 0), (1, 2, 1), (1, 2, 2), (1, 2, 3), (1, 2, 4)]
theorem md_rep (a b c : Int32) : ∃ x y z : Int32, (x, y, z) ∈ md_reps ∧ md_H a b c x y z := by
  by_cases ha : a = 0
  · subst ha
    by_cases hb : b = 0
    · subst hb
      by_cases hc : c = 0
      · subst hc
        exact ⟨0, 0, 0, by decide, Iff.rfl, Iff.rfl, Iff.rfl, Iff.rfl, Iff.rfl, Iff.rfl, Iff.rfl⟩
      · have hc' : ¬ 0 = c := fun t => hc t.symm
        exact ⟨0, 0, 1, by decide, Iff.rfl, Iff.rfl, iff_of_false hc (by decide), Iff.rfl, iff_of_false hc' (by decide), iff_of_false hc' (by decide), iff_of_false (by rw [Int32.xor_self]; exact hc') (by decide)⟩
    · have hb' : ¬ 0 = b := fun t => hb t.symm
      by_cases hc : c = 0
      · subst hc
        exact ⟨0, 1, 0, by decide, Iff.rfl, iff_of_false hb (by decide), Iff.rfl, iff_of_false hb' (by decide), Iff.rfl, iff_of_false hb (by decide), iff_of_false (by rw [Int32.zero_xor]; exact hb) (by decide)⟩
      · have hc' : ¬ 0 = c := fun t => hc t.symm
        by_cases hbc : b = c
        · exact ⟨0, 1, 1, by decide, Iff.rfl, iff_of_false hb (by decide), iff_of_false hc (by decide), iff_of_false hb' (by decide), iff_of_false hc' (by decide), iff_of_true hbc rfl, iff_of_true (by rw [Int32.zero_xor]; exact hbc) (by decide)⟩
        · exact ⟨0, 1, 2, by decide, Iff.rfl, iff_of_false hb (by decide), iff_of_false hc (by decide), iff_of_false hb' (by decide), iff_of_false hc' (by decide), iff_of_false hbc (by decide), iff_of_false (by rw [Int32.zero_xor]; exact hbc) (by decide)⟩
  · by_cases hb : b = 0
    · subst hb
      by_cases hc : c = 0
      · subst hc
        exact ⟨1, 0, 0, by decide, iff_of_false ha (by decide), Iff.rfl, Iff.rfl, iff_of_false ha (by decide), iff_of_false ha (by decide), Iff.rfl, iff_of_false (by rw [Int32.xor_zero]; exact ha) (by decide)⟩
      · have hc' : ¬ 0 = c := fun t => hc t.symm
        by_cases hac : a = c
        · exact ⟨1, 0, 1, by decide, iff_of_false ha (by decide), Iff.rfl, iff_of_false hc (by decide), iff_of_false ha (by decide), iff_of_true hac rfl, iff_of_false hc' (by decide), iff_of_true (by rw [Int32.xor_zero]; exact hac) (by decide)⟩
        · exact ⟨1, 0, 2, by decide, iff_of_false ha (by decide), Iff.rfl, iff_of_false hc (by decide), iff_of_false ha (by decide), iff_of_false hac (by decide), iff_of_false hc' (by decide), iff_of_false (by rw [Int32.xor_zero]; exact hac) (by decide)⟩
    · by_cases hab : a = b
      · subst hab
        by_cases hc : c = 0
        · subst hc
          exact ⟨1, 1, 0, by decide, iff_of_false ha (by decide), iff_of_false ha (by decide), Iff.rfl, iff_of_true rfl rfl, iff_of_false ha (by decide), iff_of_false ha (by decide), iff_of_true Int32.xor_self (by decide)⟩
        · have hc' : ¬ 0 = c := fun t => hc t.symm
          by_cases hac : a = c
          · exact ⟨1, 1, 1, by decide, iff_of_false ha (by decide), iff_of_false ha (by decide), iff_of_false hc (by decide), iff_of_true rfl rfl, iff_of_true hac rfl, iff_of_true hac rfl, iff_of_false (by rw [Int32.xor_self]; exact hc') (by decide)⟩
          · exact ⟨1, 1, 2, by decide, iff_of_false ha (by decide), iff_of_false ha (by decide), iff_of_false hc (by decide), iff_of_true rfl rfl, iff_of_false hac (by decide), iff_of_false hac (by decide), iff_of_false (by rw [Int32.xor_self]; exact hc') (by decide)⟩
      · by_cases hc : c = 0
        · subst hc
          exact ⟨1, 2, 0, by decide, iff_of_false ha (by decide), iff_of_false hb (by decide), Iff.rfl, iff_of_false hab (by decide), iff_of_false ha (by decide), iff_of_false hb (by decide), iff_of_false (by rw [Int32.xor_eq_zero_iff]; exact hab) (by decide)⟩
        · by_cases hac : a = c
          · subst hac
            refine ⟨1, 2, 1, by decide, iff_of_false ha (by decide), iff_of_false hb (by decide), iff_of_false ha (by decide), iff_of_false hab (by decide), iff_of_true rfl rfl, iff_of_false (fun t => hab t.symm) (by decide), iff_of_false (fun t => hb ?_) (by decide)⟩
            exact (Int32.xor_right_inj a).mp (t.trans Int32.xor_zero.symm)
          · by_cases hbc : b = c
            · subst hbc
              refine ⟨1, 2, 2, by decide, iff_of_false ha (by decide), iff_of_false hb (by decide), iff_of_false hb (by decide), iff_of_false hab (by decide), iff_of_false hab (by decide), iff_of_true rfl rfl, iff_of_false (fun t => ha ?_) (by decide)⟩
              exact (Int32.xor_left_inj b).mp (t.trans Int32.zero_xor.symm)
            · by_cases hx : a ^^^ b = c
              · exact ⟨1, 2, 3, by decide, iff_of_false ha (by decide), iff_of_false hb (by decide), iff_of_false hc (by decide), iff_of_false hab (by decide), iff_of_false hac (by decide), iff_of_false hbc (by decide), iff_of_true hx (by decide)⟩
              · exact ⟨1, 2, 4, by decide, iff_of_false ha (by decide), iff_of_false hb (by decide), iff_of_false hc (by decide), iff_of_false hab (by decide), iff_of_false hac (by decide), iff_of_false hbc (by decide), iff_of_false hx (by decide)⟩
/-! the run at one triple -/
def md_ok1 (a b c : Int32) : Bool := decide (md_R a b c 255 = md_rr a b c) && decide (md_po (md_R a b c) 1 1 100 [(0, 0, 1)] 0 = some (md_bs a b c)) && decide (md_po (md_R a b c) 2 2 100 [(0, 0, 1)] 0 = some 256)
def md_ok2 (a b c : Int32) : Bool := decide (md_cc (md_R a b c) (md_cn a b c) 255 1 0 = md_ci a b c)
def md_ok3 (a b c : Int32) : Bool :=
  match md_rb (md_R a b c) (md_col 8 0 md_z) 9 0 1 0 (md_fl 0 8 0 md_z) md_z md_z md_z with
  | none => false
  | some (r, q, b5, b6, b7, b8) => decide (r = md_rr a b c) && (match md_un (md_R a b c) 8 0 0 q (md_fl 0 8 0 b5) b6 b7 b8 with
    | none => false
    | some (u, _) => decide (u = md_uu a b c))
theorem md_ev1 : ∀ t, t ∈ md_reps → md_ok1 t.1 t.2.1 t.2.2 = true := by decide +kernel
theorem md_ev2 : ∀ t, t ∈ md_reps → md_ok2 t.1 t.2.1 t.2.2 = true := by decide +kernel
theorem md_ev3 : ∀ t, t ∈ md_reps → md_ok3 t.1 t.2.1 t.2.2 = true := by decide +kernel
end
section
/-! ===== the law ===== -/
theorem md_ic3 {P : Int32 → Prop} {x y : Int32} {A B C D : Prop} (h : P (md_pr x y)) (h0 : P 0 → A) (h1 : P 0 → B) (h2 : P 0 → C) (h3 : P 1 → D) : (x = 0 → A) ∧ (¬ x = 0 → ((y = 0 → B) ∧ (¬ y = 0 → ((x = y → C) ∧ (¬ x = y → D))))) :=
  md_ic (P := P) h h0 (fun g => md_ic (P := P) g h1 (fun k => md_ic (P := P) k h2 h3))
theorem md_ic2 {P : Int32 → Prop} {x y : Int32} {A B C : Prop} (h : P (md_q x y)) (h0 : P 0 → A) (h1 : P 1 → B) (h2 : P 0 → C) : (x = 0 → A) ∧ (¬ x = 0 → ((x = y → B) ∧ (¬ x = y → C))) :=
  md_ic (P := P) h h0 (fun g => md_ic (P := P) g h1 h2)
theorem md_law {post : Int32 → St0 → Prop} {mc ms kc ks : Nat} {rk cn : Int32 → Int32} {x3 a b c q1 q2 : Int32} {q : Int32} {a1 a2 a3 a4 a5 a6 a7 a8 a9 a10 a11 : Nat → Int32} {b5 b6 b7 b8 c5 c6 c7 c8 : Nat → Int32} (hR : md_RK rk a1) (hC : md_CN cn a1)
    (E1 : rk 255 = md_rr a b c) (E2 : rk (x3 &&& 126) = if x3 &&& 8 = 0 then 0 else if b = 0 then 0 else 1)
    (E3 : md_po rk 1 1 100 [(0, 0, 1)] 0 = some (md_bs a b c)) (E4 : md_cc rk cn 255 1 0 = md_ci a b c)
    (E5 : md_rb rk a2 9 0 1 q (md_fl 0 8 0 a5) a6 a7 a8 = some (md_rr a b c, q1, b5, b6, b7, b8))
    (E6 : md_un rk 8 0 0 q1 (md_fl 0 8 0 b5) b6 b7 b8 = some (md_uu a b c, q2, c5, c6, c7, c8))
    (E7 : md_po rk 2 2 100 [(0, 0, 1)] 0 = some 256) (K : post 1 ()) :
    wL_lawOf_59 post mc ms x3 a b c (if a = 0 then 0 else 1) kc ks q a1 a2 a3 a4 a5 a6 a7 a8 a9 a10 a11 := by
  refine md_ic (P := fun z => wL_lawOf_69 post mc ms x3 a b c z (if a = 0 then 0 else 1) kc ks q a1 a2 a3 a4 a5 a6 a7 a8 a9 a10 a11) ?_ id id
  refine md_ic (P := fun z => wL_lawOf_80 post mc ms x3 a b c z ((if a = 0 then 0 else 1) + (if b = 0 then 0 else 1)) kc ks q a1 a2 a3 a4 a5 a6 a7 a8 a9 a10 a11) ?_ id id
  refine nm_r (show _ = md_n a b c from rfl) ?_
  refine md_ic3 (P := fun z => wL_lawOf_105 post mc ms x3 a b c (md_n a b c) z kc ks q a1 a2 a3 a4 a5 a6 a7 a8 a9 a10 a11) ?_ id id id id
  refine md_ic3 (P := fun z => wL_lawOf_127 post mc ms x3 a b c (md_n a b c) z (md_pr a b) kc ks q a1 a2 a3 a4 a5 a6 a7 a8 a9 a10 a11) ?_ id id id id
  refine md_ic3 (P := fun z => wL_lawOf_150 post mc ms x3 a b c (md_n a b c) z (md_pr a b + md_pr a c) kc ks q a1 a2 a3 a4 a5 a6 a7 a8 a9 a10 a11) ?_ id id id id
  refine nm_r (show _ = md_ps a b c from rfl) ?_
  refine md_ic (P := fun z => wL_lawOf_174 post mc ms x3 a b c (md_n a b c) (md_ps a b c) z kc ks q a1 a2 a3 a4 a5 a6 a7 a8 a9 a10 a11) (u := if a ^^^ b = c then 0 else 1) (v := 0) ?_ (fun h => md_ic (P := fun z => wL_lawOf_174 post mc ms x3 a b c (md_n a b c) (md_ps a b c) z kc ks q a1 a2 a3 a4 a5 a6 a7 a8 a9 a10 a11) h id id) id
  refine md_ic (P := fun z => wL_lawOf_204 post mc ms x3 a b c (md_n a b c) (md_ps a b c) (md_th a b c) z kc ks q a1 a2 a3 a4 a5 a6 a7 a8 a9 a10 a11) (u := if md_ps a b c ≤ 0 then (if md_n a b c ≤ 0 then 0 else 1) else 2) (v := 3) ?_ (fun h => md_ic (P := fun z => wL_lawOf_204 post mc ms x3 a b c (md_n a b c) (md_ps a b c) (md_th a b c) z kc ks q a1 a2 a3 a4 a5 a6 a7 a8 a9 a10 a11) h (fun g => md_ic (P := fun z => wL_lawOf_204 post mc ms x3 a b c (md_n a b c) (md_ps a b c) (md_th a b c) z kc ks q a1 a2 a3 a4 a5 a6 a7 a8 a9 a10 a11) g id id) id) id
  refine hR _ q a2 a3 a4 a5 a6 a7 a8 a9 a10 a11 255 (fun p1 => br_t E1 ?_)
  refine hR _ q a2 a3 p1 a5 a6 a7 a8 a9 a10 a11 (x3 &&& 126) (fun p2 => ?_)
  refine md_ic (P := fun z => wL_lawOf_245 post mc ms a b c (md_n a b c) (md_ps a b c) (md_th a b c) (md_rr a b c) z (rk (x3 &&& 126)) kc ks q a1 a2 a3 p2 a5 a6 a7 a8 a9 a10 a11) (u := 0) (v := if b = 0 then 0 else 1) ?_ id (fun h => md_ic (P := fun z => wL_lawOf_245 post mc ms a b c (md_n a b c) (md_ps a b c) (md_th a b c) (md_rr a b c) z (rk (x3 &&& 126)) kc ks q a1 a2 a3 p2 a5 a6 a7 a8 a9 a10 a11) h id id)
  refine br_t E2 (md_bases hR E3 (fun p3 b9 b10 b11 => ?_))
  refine md_ic (P := fun z => wL_lawOf_285 post mc ms a b c (md_n a b c) (md_ps a b c) (md_th a b c) (md_rr a b c) z (md_bs a b c) kc ks q a1 a2 a3 p3 a5 a6 a7 a8 b9 b10 b11) (u := if md_ps a b c ≤ 0 then (if md_n a b c ≤ 0 then 1 else md_n a b c) else md_ps a b c) (v := 1) ?_ (fun h => md_ic (P := fun z => wL_lawOf_285 post mc ms a b c (md_n a b c) (md_ps a b c) (md_th a b c) (md_rr a b c) z (md_bs a b c) kc ks q a1 a2 a3 p3 a5 a6 a7 a8 b9 b10 b11) h (fun g => md_ic (P := fun z => wL_lawOf_285 post mc ms a b c (md_n a b c) (md_ps a b c) (md_th a b c) (md_rr a b c) z (md_bs a b c) kc ks q a1 a2 a3 p3 a5 a6 a7 a8 b9 b10 b11) g id id) id) id
  refine br_t rfl ?_
  refine md_ic2 (P := fun z => wL_lawOf_307 post mc ms a b c (md_n a b c) (md_ps a b c) (md_th a b c) (md_rr a b c) z kc ks q a1 a2 a3 p3 a5 a6 a7 a8 b9 b10 b11) ?_ id id id
  refine md_ic2 (P := fun z => wL_lawOf_324 post mc ms b c (md_n a b c) (md_ps a b c) (md_th a b c) (md_rr a b c) z (md_q a b) kc ks q a1 a2 a3 p3 a5 a6 a7 a8 b9 b10 b11) ?_ id id id
  refine md_ic2 (P := fun z => wL_lawOf_342 post mc ms (md_n a b c) (md_ps a b c) (md_th a b c) (md_rr a b c) z (md_q a b + md_q a c) kc ks q a1 a2 a3 p3 a5 a6 a7 a8 b9 b10 b11) ?_ id id id
  refine nm_r (show _ = md_eq a b c from rfl) ?_
  refine md_ic (P := fun z => wL_lawOf_369 post mc ms (md_n a b c) (md_rr a b c) z ((8 - md_n a b c) + md_eq a b c) kc ks q a1 a2 a3 p3 a5 a6 a7 a8 b9 b10 b11) (u := if md_th a b c = 0 then 1 else 0) (v := 0) ?_ (fun h => md_ic (P := fun z => wL_lawOf_369 post mc ms (md_n a b c) (md_rr a b c) z ((8 - md_n a b c) + md_eq a b c) kc ks q a1 a2 a3 p3 a5 a6 a7 a8 b9 b10 b11) h id id) id
  refine nm_r (show _ = md_ci a b c from rfl) ?_
  refine md_circ hR hC (fun p4 => br_t E4 ?_)
  refine md_rainbow hR E5 (fun p5 => br_t rfl ?_)
  refine md_union hR E6 (fun p6 => ?_)
  refine md_ic (P := fun z => wL_lawOf_417 post mc ms z (md_uu a b c) kc ks q2 a1 a2 a3 p6 c5 c6 c7 c8 b9 b10 b11) ?_ id id
  exact br_t rfl (md_poly hR E7 (fun p7 d9 d10 d11 => br_t rfl K))
theorem md_b0 (x : Int32) : md_bt (x &&& 126) (nI 0) := by
  unfold md_bt
  rw [nf_bit _ 0 (by decide), Int32.and_assoc, show (126 : Int32) &&& ((1 : Int32) <<< (nI 0 &&& 31)) = 0 by decide, Int32.and_zero]
theorem md_b7 (x : Int32) : md_bt (x &&& 126) (nI 7) := by
  unfold md_bt
  rw [nf_bit _ 7 (by decide), Int32.and_assoc, show (126 : Int32) &&& ((1 : Int32) <<< (nI 7 &&& 31)) = 0 by decide, Int32.and_zero]
theorem md_b3 (x : Int32) : md_bt (x &&& 126) (nI 3) ↔ x &&& 8 = 0 := by
  unfold md_bt
  rw [nf_bit _ 3 (by decide), Int32.and_assoc, show (126 : Int32) &&& ((1 : Int32) <<< (nI 3 &&& 31)) = 8 by decide]
theorem md_R126 (a b c x : Int32) : md_R a b c (x &&& 126) = if x &&& 8 = 0 then 0 else if b = 0 then 0 else 1 := by
  have e0 : md_oI (x &&& 126) 0 a = 0 := if_pos (md_b0 x)
  have e7 : md_oI (x &&& 126) 7 c = 0 := if_pos (md_b7 x)
  unfold md_R
  rw [e0, e7]
  by_cases h : x &&& 8 = 0
  · have e3 : md_oI (x &&& 126) 3 b = 0 := if_pos ((md_b3 x).mpr h)
    rw [e3, if_pos h]
    decide
  · have e3 : md_oI (x &&& 126) 3 b = b := if_neg (fun t => h ((md_b3 x).mp t))
    rw [e3, if_neg h]
    unfold md_r3
    by_cases g : b = 0
    · rw [g]
      decide
    · rw [if_pos rfl, if_neg (fun t => g (t.elim id (fun u => u.symm))), if_pos (Or.inl rfl), if_neg g]
      decide
theorem md_main {post : Int32 → St0 → Prop} (x0 x1 x2 x3 : Int32) (K : post 1 ()) : wpL_lawOf post 12 109 () x0 x1 x2 x3 := by
  obtain ⟨a, ha, ea⟩ := pk_andE x0 (m := 31) 5 (by decide)
  obtain ⟨b, hb, eb⟩ := pk_andE x1 (m := 31) 5 (by decide)
  obtain ⟨c, hc, ec⟩ := pk_andE x2 (m := 31) 5 (by decide)
  refine ⟨by decide, by decide, 11, 97, by decide, by decide, md_init (by decide) (by decide) (nm_r ea (nm_r eb (nm_r ec ?_)))⟩
  refine ⟨pk_in 0 8 (by decide), nm_r (show upd md_z ((0 : Int32) &&& 7).toNatClampNeg (x0 &&& 31) = upd md_z 0 (nI a) by rw [ea]; rfl) ?_⟩
  refine ⟨pk_in 3 8 (by decide), nm_r (show upd (upd md_z 0 (nI a)) ((3 : Int32) &&& 7).toNatClampNeg (x1 &&& 31) = upd (upd md_z 0 (nI a)) 3 (nI b) by rw [eb]; rfl) ?_⟩
  refine ⟨pk_in 7 8 (by decide), nm_r (show upd (upd (upd md_z 0 (nI a)) 3 (nI b)) ((7 : Int32) &&& 7).toNatClampNeg (x2 &&& 31) = upd (upd (upd md_z 0 (nI a)) 3 (nI b)) 7 (nI c) by rw [ec]; rfl) ?_⟩
  have hV : md_V (upd (upd (upd md_z 0 (nI a)) 3 (nI b)) 7 (nI c)) (nI a) (nI b) (nI c) := ⟨rfl, rfl, rfl, rfl, rfl, rfl, rfl, rfl⟩
  have hR := md_RK_R ha hb hc hV
  have hC : md_CN (md_cn (nI a) (nI b) (nI c)) (upd (upd (upd md_z 0 (nI a)) 3 (nI b)) 7 (nI c)) := fun _ _ _ _ _ _ _ _ _ _ _ _ _ K => md_cancels hV K
  obtain ⟨x, y, z, hm, hH⟩ := md_rep (nI a) (nI b) (nI c)
  have v1 := md_ev1 (x, y, z) hm
  have v2 := md_ev2 (x, y, z) hm
  have v3 := md_ev3 (x, y, z) hm
  dsimp only at v1 v2 v3
  unfold md_ok1 at v1
  unfold md_ok2 at v2
  unfold md_ok3 at v3
  rw [← md_HR hH] at v1 v2 v3
  rw [← md_Hrr hH, ← md_Hbs hH, Bool.and_eq_true, Bool.and_eq_true, decide_eq_true_eq, decide_eq_true_eq, decide_eq_true_eq] at v1
  rw [← md_Hcn hH, ← md_Hci hH, decide_eq_true_eq] at v2
  rw [← md_Hrr hH, ← md_Huu hH] at v3
  obtain ⟨⟨E1, E3⟩, E7⟩ := v1
  cases hb : md_rb (md_R (nI a) (nI b) (nI c)) (md_col 8 0 md_z) 9 0 1 0 (md_fl 0 8 0 md_z) md_z md_z md_z with
  | none =>
    rw [hb] at v3
    exact absurd v3 Bool.false_ne_true
  | some s =>
    obtain ⟨r, q1, b5, b6, b7, b8⟩ := s
    rw [hb] at v3
    dsimp only at v3
    rw [Bool.and_eq_true, decide_eq_true_eq] at v3
    obtain ⟨e5, v4⟩ := v3
    cases hu : md_un (md_R (nI a) (nI b) (nI c)) 8 0 0 q1 (md_fl 0 8 0 b5) b6 b7 b8 with
    | none =>
      rw [hu] at v4
      exact absurd v4 Bool.false_ne_true
    | some s2 =>
      obtain ⟨u, q2, c5, c6, c7, c8⟩ := s2
      rw [hu] at v4
      dsimp only at v4
      rw [decide_eq_true_eq] at v4
      rw [e5] at hb
      rw [v4] at hu
      refine md_ic (P := fun t => wL_lawOf_59 post 12 109 x3 (nI a) (nI b) (nI c) t (1 + 11) (12 + 97) 0 (upd (upd (upd md_z 0 (nI a)) 3 (nI b)) 7 (nI c)) (md_col 8 0 md_z) md_z md_z md_z md_z md_z md_z md_z md_z md_z) ?_ id id
      exact md_law hR hC E1 (md_R126 _ _ _ _) E3 v2 hb hu E7 K
theorem md_cell {post : Int32 → Prop} {xs : Nat → Int32} {L : Nat} (hL : L ≤ 4) (i : Nat) (hi : i < 4) (H : ∀ r, post r) : wpL_cellAt post L xs () (nI i) :=
  pk_le L i (fun _ => H _) (fun z => ⟨pk_in i L z, H _⟩)
theorem i_vc (xs : Nat → Int32) (L : Nat) (hL : L ≤ 4) : wpL_law (fun r => r = 1) L xs := by
  refine md_cell hL 0 (by decide) (fun r0 => md_cell hL 1 (by decide) (fun r1 => md_cell hL 2 (by decide) (fun r2 => md_cell hL 3 (by decide) (fun r3 => ?_))))
  exact ⟨12, 109, by decide, by decide, md_main r0 r1 r2 r3 rfl⟩
end
