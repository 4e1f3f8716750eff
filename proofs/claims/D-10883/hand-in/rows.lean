section
/-! plain rows: flags, bits of a word array, the folded value, the matcher -/
def qb_I (b : Bool) : Int32 := if b = true then 1 else 0
theorem qb_br {A B : Prop} (b : Bool) (hA : b = false → A) (hB : b = true → B) : (qb_I b = 0 → A) ∧ (¬ qb_I b = 0 → B) := by
  cases b
  · exact ⟨fun _ => hA rfl, fun z => absurd rfl z⟩
  · exact ⟨fun z => absurd z (by decide), fun _ => hB rfl⟩
theorem qb_and (b e : Bool) : qb_I b &&& qb_I e = qb_I (b && e) := by
  cases b <;> cases e <;> decide
theorem qb_andN (b e : Bool) : qb_I b &&& (qb_I e ^^^ (-1)) = qb_I (b && !e) := by
  cases b <;> cases e <;> decide
/-- the bit p of a word array -/
def qb_at (a : Nat → Int32) (p : Nat) : Bool := (a (p / 32)).toBitVec.getLsbD (p % 32)
theorem qb_s31 : ∀ j, j < 32 → (((nI j).toUInt32 &&& Int32.toUInt32 31).toBitVec % 32).toNat = j := by decide +kernel
theorem qb_sm : ∀ j, j < 32 → ((nI j &&& 31).toBitVec.smod 32).toNat = j := by decide +kernel
theorem qb_tw : ∀ j, j < 32 → ((1 : Int32) <<< (nI j &&& 31)).toBitVec = BitVec.twoPow 32 j := by decide +kernel
theorem qb_m31 {p : Nat} (hp : p < 2 ^ 31) : nI p &&& 31 = nI (p % 32) := pk_andN (by omega) 5 (by decide)
theorem qb_ix {p : Nat} (hp : p < 2 ^ 31) : nI p >>> ((5 : Int32) &&& 31) = nI (p / 32) := pk_shrN hp _ 5 (by decide)
theorem qb_get (x : Int32) {p : Nat} (hp : p < 2 ^ 31) : ((x.toUInt32 >>> ((nI p &&& 31).toUInt32 &&& Int32.toUInt32 31)).toInt32 &&& 1) = nI (x.toBitVec.getLsbD (p % 32)).toNat := by
  have h2 : p % 32 < 32 := Nat.mod_lt _ (by omega)
  rw [qb_m31 hp, pk_and _ 1 (by decide), pk_ushr x (nI (p % 32)) (p % 32) (qb_s31 _ h2)]
  have h3 : (x.toBitVec.getLsbD (p % 32)).toNat = x.toBitVec.toNat / 2 ^ (p % 32) % 2 := by
    show (x.toBitVec.toNat.testBit (p % 32)).toNat = _
    exact Nat.toNat_testBit _ _
  rw [h3]
theorem qb_mask {p : Nat} (hp : p < 2 ^ 31) : ((1 : Int32) <<< ((nI p &&& 31) &&& 31)).toBitVec = BitVec.twoPow 32 (p % 32) := by
  rw [qb_m31 hp]
  exact qb_tw _ (Nat.mod_lt _ (by omega))
theorem qb_set (x : Int32) {p j : Nat} (hp : p < 2 ^ 31) (hj : j < 32) : (x ||| ((1 : Int32) <<< ((nI p &&& 31) &&& 31))).toBitVec.getLsbD j = if j = p % 32 then true else x.toBitVec.getLsbD j := by
  have h2 : p % 32 < 32 := Nat.mod_lt _ (by omega)
  rw [Int32.toBitVec_or, BitVec.getLsbD_or, qb_mask hp, BitVec.getLsbD_twoPow]
  by_cases e : j = p % 32
  · simp [e, h2]
  · simp [e, Ne.symm e]
theorem qb_m1 : (-1 : Int32).toBitVec = BitVec.allOnes 32 := by decide
theorem qb_clr (x : Int32) {p j : Nat} (hp : p < 2 ^ 31) (hj : j < 32) : (x &&& (((1 : Int32) <<< ((nI p &&& 31) &&& 31)) ^^^ (-1))).toBitVec.getLsbD j = if j = p % 32 then false else x.toBitVec.getLsbD j := by
  have h2 : p % 32 < 32 := Nat.mod_lt _ (by omega)
  rw [Int32.toBitVec_and, BitVec.getLsbD_and, Int32.toBitVec_xor, BitVec.getLsbD_xor, qb_mask hp, BitVec.getLsbD_twoPow, qb_m1, BitVec.getLsbD_allOnes]
  by_cases e : j = p % 32
  · simp [e, h2]
  · simp [e, Ne.symm e, hj]
theorem qb_put (a : Nat → Int32) (p q : Nat) (b : Bool) (y : Int32) (hy : ∀ j, j < 32 → y.toBitVec.getLsbD j = if j = p % 32 then b else (a (p / 32)).toBitVec.getLsbD j) : qb_at (upd a (p / 32) y) q = if q = p then b else qb_at a q := by
  unfold qb_at
  have h2 : q % 32 < 32 := Nat.mod_lt _ (by omega)
  by_cases e : q / 32 = p / 32
  · rw [e, pk_us, hy _ h2]
    by_cases e2 : q % 32 = p % 32
    · rw [if_pos e2, if_pos (by omega)]
    · rw [if_neg e2, if_neg (fun z => e2 (by rw [z]))]
  · rw [pk_un e, if_neg (fun z => e (by rw [z]))]
theorem qb_putT (a : Nat → Int32) {p : Nat} (q : Nat) (hp : p < 2 ^ 31) : qb_at (upd a (nI p >>> ((5 : Int32) &&& 31)).toNatClampNeg ((a (nI p >>> ((5 : Int32) &&& 31)).toNatClampNeg) ||| ((1 : Int32) <<< ((nI p &&& 31) &&& 31)))) q = if q = p then true else qb_at a q := by
  rw [pk_cl (p / 32) (qb_ix hp) (by omega)]
  exact qb_put a p q true _ (fun j hj => qb_set _ hp hj)
theorem qb_putF (a : Nat → Int32) {p : Nat} (q : Nat) (hp : p < 2 ^ 31) : qb_at (upd a (nI p >>> ((5 : Int32) &&& 31)).toNatClampNeg ((a (nI p >>> ((5 : Int32) &&& 31)).toNatClampNeg) &&& (((1 : Int32) <<< ((nI p &&& 31) &&& 31)) ^^^ (-1)))) q = if q = p then false else qb_at a q := by
  rw [pk_cl (p / 32) (qb_ix hp) (by omega)]
  exact qb_put a p q false _ (fun j hj => qb_clr _ hp hj)
theorem qb_n0 (b : Bool) : nI b.toNat = 0 ↔ b = false := by
  cases b <;> decide
theorem qb_tst {V c i : Nat} (hV : V < 2 ^ 31) (hi : i < c) (hc : c ≤ 32) : ((nI V >>> (((nI c - 1) - nI i) &&& 31)) &&& 1) = 0 ↔ V.testBit (c - 1 - i) = false := by
  have h1 : (nI c - 1) - nI i = nI (c - 1 - i) := by
    rw [show nI c - 1 = nI (c - 1) from pk_sub (a := c) (b := 1) (by omega)]
    exact pk_sub (by omega)
  have h2 : V / 2 ^ (c - 1 - i) ≤ V := Nat.div_le_self _ _
  rw [h1, pk_shrN hV _ (c - 1 - i) (qb_sm _ (by omega)), pk_andN (by omega) 1 (by decide)]
  rw [show V / 2 ^ (c - 1 - i) % 2 ^ 1 = (V.testBit (c - 1 - i)).toNat from (Nat.toNat_testBit _ _).symm]
  exact qb_n0 _
/-- one more bit has been put -/
theorem qb_step {a s s' : Nat → Int32} {o c V i : Nat} (h : ∀ q, qb_at s q = if o ≤ q ∧ q < o + i then V.testBit (c - 1 - (q - o)) else qb_at a q)
    (h' : ∀ q, qb_at s' q = if q = o + i then V.testBit (c - 1 - i) else qb_at s q) :
    ∀ q, qb_at s' q = if o ≤ q ∧ q < o + (i + 1) then V.testBit (c - 1 - (q - o)) else qb_at a q := by
  intro q
  rw [h' q]
  by_cases e : q = o + i
  · rw [if_pos e, if_pos (by omega), show q - o = i by omega]
  · rw [if_neg e, h q]
    by_cases e2 : o ≤ q ∧ q < o + i
    · rw [if_pos e2, if_pos (by omega)]
    · rw [if_neg e2, if_neg (by omega)]
/-- one more bit has been taken -/
theorem qb_more {V c i : Nat} (hi : i < c) : 2 * (V / 2 ^ (c - i)) + (V.testBit (c - 1 - i)).toNat = V / 2 ^ (c - (i + 1)) := by
  rw [Nat.toNat_testBit, show c - i = (c - 1 - i) + 1 by omega, show c - (i + 1) = c - 1 - i by omega, Nat.pow_succ, ← Nat.div_div_eq_div_mul]
  omega
/-- P is the folded form of v, and v is P unfolded -/
def fo_ok (v : Int32) (P : Nat) : Prop := P < 2048 ∧ (v < 0 → (-2) * v - 1 = nI P) ∧ (¬ v < 0 → 2 * v = nI P) ∧ (nI P &&& 1 = 0 → nI P / 2 = v) ∧ (¬ nI P &&& 1 = 0 → (-(nI P + 1)) / 2 = v) ∧ v.toInt16.toInt32 = v ∧ ¬ 2000 ≤ v
def fo_P (k : Nat) : Nat := if k < 1000 then 2 * (1000 - k) - 1 else 2 * (k - 1000)
theorem fo_all : ∀ k, k < 2001 → (fo_P k < 2048 ∧ (nI k - 1000 < 0 → (-2) * (nI k - 1000) - 1 = nI (fo_P k)) ∧ (¬ nI k - 1000 < 0 → 2 * (nI k - 1000) = nI (fo_P k)) ∧ (nI (fo_P k) &&& 1 = 0 → nI (fo_P k) / 2 = nI k - 1000) ∧ (¬ nI (fo_P k) &&& 1 = 0 → (-(nI (fo_P k) + 1)) / 2 = nI k - 1000) ∧ (nI k - 1000).toInt16.toInt32 = nI k - 1000 ∧ ¬ 2000 ≤ nI k - 1000) := by decide +kernel
theorem fo_ex {v : Int32} (h1 : ¬ v < (-1000)) (h2 : v ≤ 1000) : ∃ P, fo_ok v P := by
  have e1 : -1000 ≤ v.toInt := by
    have := Int32.not_lt.mp h1
    rw [Int32.le_iff_toInt_le] at this
    exact this
  have e2 : v.toInt ≤ 1000 := by
    rw [Int32.le_iff_toInt_le] at h2
    exact h2
  have e : v = nI (v.toInt + 1000).toNat - nI 1000 := by
    apply Int32.toInt_inj.mp
    rw [pk_sub_toInt (by omega) (by omega)]
    omega
  have k := fo_all (v.toInt + 1000).toNat (by omega)
  rw [show nI (v.toInt + 1000).toNat - 1000 = v from e.symm] at k
  exact ⟨_, k⟩
theorem fo_T16 : ∀ k, k < 1000 → (nI k).toInt16.toInt32 = nI k := by decide +kernel
/-- a digit of the matcher against a label's value -/
def ft_f (d v : Nat) : Bool := if d < 4 then v == d else (d == 4 || !(v == d - 5))
def ft_g (mk : Bool) (d v : Nat) : Bool := if d < 4 then (mk && v == d) else (d == 4 || !(mk && v == d - 5))
def ft_M (lb m : Nat) : Bool := ft_f (m % 9) (lb % 4) && (ft_f (m / 9 % 9) (lb / 4 % 4) && ft_f (m / 81) (lb / 16))
theorem ft_sum {mk : Bool} {lb m : Nat} (hl : lb < 64) (hm : m ≤ 728) :
    ((((mk && ft_g mk (m % 9) (lb / 4 ^ 0 % 4)) && ft_g mk (m / 9 % 9) (lb / 4 ^ 1 % 4)) && ft_g mk (m / 9 / 9 % 9) (lb / 4 ^ 2 % 4)) && mk) = (mk && ft_M lb m) := by
  cases mk
  · rfl
  · have e0 : lb / 4 ^ 0 % 4 = lb % 4 := by simp
    have e1 : lb / 4 ^ 1 % 4 = lb / 4 % 4 := by simp
    have e2 : lb / 4 ^ 2 % 4 = lb / 16 := by
      show lb / 16 % 4 = lb / 16
      omega
    have e3 : m / 9 / 9 % 9 = m / 81 := by omega
    have g : ∀ d v, ft_g true d v = ft_f d v := fun d v => by
      unfold ft_g ft_f
      simp
    rw [e0, e1, e2, e3, g, g, g]
    unfold ft_M
    simp [Bool.and_assoc]
theorem ix_0 {x : Int32} (h : ¬ x < 0) (h1 : ¬ 1 ≤ x) : x = 0 := by
  apply Int32.toInt_inj.mp
  rw [Int32.lt_iff_toInt_lt] at h
  rw [Int32.le_iff_toInt_le] at h1
  have a : (0 : Int32).toInt = 0 := by decide
  have b : (1 : Int32).toInt = 1 := by decide
  rw [a] at h
  rw [b] at h1
  rw [a]
  omega
theorem ix_up {f : Nat → Int32} {x y : Int32} (h : x = y) : upd f (0 : Int32).toNatClampNeg x 0 = y := by
  rw [sb_cl0, pk_us, h]
end
section
/-! walks of the small methods and of putBits, takeBits -/
theorem wa_slot {post : Int32 → Prop} {u : St2} {p0 : Int32} (h : post (19200 + (224 * p0))) : wpX_slotBit post u p0 := by
  obtain ⟨c0, c1, c2, c3, c4, c5, c6, c7, c8, c9, c10, c11, a1, a2, a3, a4, a5, a6, a7, a8, a9, a10, a11, a12, a13, a14, a15, a16, a17, a18, a19, a20, a21, a22, a23, a24, a25⟩ := u
  exact h
theorem wa_fold {post : Int32 → Prop} {u : St2} {p0 : Int32} {P : Nat} (hf : fo_ok p0 P) (h : post (nI P)) : wpX_folded post u p0 := by
  obtain ⟨c0, c1, c2, c3, c4, c5, c6, c7, c8, c9, c10, c11, a1, a2, a3, a4, a5, a6, a7, a8, a9, a10, a11, a12, a13, a14, a15, a16, a17, a18, a19, a20, a21, a22, a23, a24, a25⟩ := u
  obtain ⟨_, h1, h2, _, _, _, _⟩ := hf
  exact br_c (fun z => by rw [h1 z]; exact h) (fun z => by rw [h2 z]; exact h)
theorem wa_unfold {post : Int32 → Prop} {u : St2} {v : Int32} {P : Nat} (hf : fo_ok v P) (h : post v) : wpX_unfolded post u (nI P) := by
  obtain ⟨c0, c1, c2, c3, c4, c5, c6, c7, c8, c9, c10, c11, a1, a2, a3, a4, a5, a6, a7, a8, a9, a10, a11, a12, a13, a14, a15, a16, a17, a18, a19, a20, a21, a22, a23, a24, a25⟩ := u
  obtain ⟨_, _, _, h1, h2, _, _⟩ := hf
  exact br_c (fun z => ⟨by decide, by rw [h1 z]; exact h⟩) (fun z => ⟨by decide, by rw [h2 z]; exact h⟩)
theorem wa_isM {post : Int32 → Prop} {u : St2} {p0 : Int32} (h0 : p0 < 0 ∨ 728 < p0 → post 0) (h1 : ∀ m : Nat, m ≤ 728 → p0 = nI m → post 1) : wpX_isMatcher post u p0 := by
  obtain ⟨c0, c1, c2, c3, c4, c5, c6, c7, c8, c9, c10, c11, a1, a2, a3, a4, a5, a6, a7, a8, a9, a10, a11, a12, a13, a14, a15, a16, a17, a18, a19, a20, a21, a22, a23, a24, a25⟩ := u
  refine br_c (fun z => h0 (Or.inl z)) (fun z => br_c (fun z2 => h0 (Or.inr z2)) (fun z2 => ?_))
  obtain ⟨m, hm, e⟩ := nI_of2 (M := 728) (n := 728) (by decide) z (Int32.not_lt.mp z2)
  exact h1 m hm e
theorem wa_put3 {post : St2 → Prop} {o c V : Nat} (ho : o + c ≤ 20992) (hV : V < 2 ^ 31) (hc : c ≤ 32) {c0 c1 c2 c3 c4 c5 c6 c7 c8 c9 c10 c11 : Int32} {a1 a2 a3 a4 a5 a6 a7 a8 a9 a10 a11 a12 a13 a14 a15 a16 a17 a18 a19 a20 a21 a22 a23 a24 a25 : Nat → Int32}
    (H : ∀ s : Nat → Int32, (∀ q, qb_at s q = if o ≤ q ∧ q < o + c then V.testBit (c - 1 - (q - o)) else qb_at a22 q) → post (c0, c1, c2, c3, c4, c5, c6, c7, c8, c9, c10, c11, a1, a2, a3, a4, a5, a6, a7, a8, a9, a10, a11, a12, a13, a14, a15, a16, a17, a18, a19, a20, a21, s, a23, a24, a25)) :
    ∃ n, wX_putBits_3 post (nI o) (nI c) (nI V) c0 c1 c2 c3 c4 c5 c6 c7 c8 c9 c10 c11 n 0 a1 a2 a3 a4 a5 a6 a7 a8 a9 a10 a11 a12 a13 a14 a15 a16 a17 a18 a19 a20 a21 a22 a23 a24 a25 := by
  refine pk_loop (fun n i s => wX_putBits_3 post (nI o) (nI c) (nI V) c0 c1 c2 c3 c4 c5 c6 c7 c8 c9 c10 c11 n (nI i) a1 a2 a3 a4 a5 a6 a7 a8 a9 a10 a11 a12 a13 a14 a15 a16 a17 a18 a19 a20 a21 s a23 a24 a25) (fun i s => ∀ q, qb_at s q = if o ≤ q ∧ q < o + i then V.testBit (c - 1 - (q - o)) else qb_at a22 q) c 0 a22 (Nat.zero_le c) ?_ ?_ ?_
  · intro q
    rw [if_neg (by omega)]
  · intro n s h
    exact pk_le c c (fun _ => H s h) (fun z => absurd z (by omega))
  · intro n i s hi h hw
    have hp : o + i < 2 ^ 31 := by omega
    have hin : vp_in (nI (o + i) >>> ((5 : Int32) &&& 31)) 656 := pk_in ((o + i) / 32) 656 (by omega) (qb_ix hp)
    refine pk_le c i (fun z => absurd z (by omega)) (fun _ => nm_r (nI_add o i) (nm_e ?_))
    refine ek_if (qb_tst hV hi hc) (fun z => ⟨hin, hin, nm_e (nm_r (nI_1 i) (hw _ ?_))⟩) (fun z => ⟨hin, hin, nm_e (nm_r (nI_1 i) (hw _ ?_))⟩)
    · refine qb_step h (fun q => ?_)
      rw [z]
      exact qb_putF s q hp
    · refine qb_step h (fun q => ?_)
      rw [show V.testBit (c - 1 - i) = true from (Bool.not_eq_false _).mp z]
      exact qb_putT s q hp
theorem wa_put {post : St2 → Prop} {p0 p1 p2 : Int32} (o c V : Nat) (e0 : p0 = nI o) (e1 : p1 = nI c) (e2 : p2 = nI V) (ho : o + c ≤ 20992) (hV : V < 2 ^ 31) (hc : c ≤ 32) {c0 c1 c2 c3 c4 c5 c6 c7 c8 c9 c10 c11 : Int32} {a1 a2 a3 a4 a5 a6 a7 a8 a9 a10 a11 a12 a13 a14 a15 a16 a17 a18 a19 a20 a21 a22 a23 a24 a25 : Nat → Int32}
    (H : ∀ s : Nat → Int32, (∀ q, qb_at s q = if o ≤ q ∧ q < o + c then V.testBit (c - 1 - (q - o)) else qb_at a22 q) → post (c0, c1, c2, c3, c4, c5, c6, c7, c8, c9, c10, c11, a1, a2, a3, a4, a5, a6, a7, a8, a9, a10, a11, a12, a13, a14, a15, a16, a17, a18, a19, a20, a21, s, a23, a24, a25)) :
    wpX_putBits post (c0, c1, c2, c3, c4, c5, c6, c7, c8, c9, c10, c11, a1, a2, a3, a4, a5, a6, a7, a8, a9, a10, a11, a12, a13, a14, a15, a16, a17, a18, a19, a20, a21, a22, a23, a24, a25) p0 p1 p2 := by
  subst e0 e1 e2
  exact wa_put3 ho hV hc H
theorem wa_take4 {post : Int32 → St2 → Prop} {o c V : Nat} (ho : o + c ≤ 20992) (hV : V < 2 ^ c) (hc : c ≤ 30) {c0 c1 c2 c3 c4 c5 c6 c7 c8 c9 c10 c11 : Int32} {a1 a2 a3 a4 a5 a6 a7 a8 a9 a10 a11 a12 a13 a14 a15 a16 a17 a18 a19 a20 a21 a22 a23 a24 a25 : Nat → Int32}
    (hb : ∀ j, j < c → qb_at a22 (o + j) = V.testBit (c - 1 - j)) (H : post (nI V) (c0, c1, c2, nI (o + c), c4, c5, c6, c7, c8, c9, c10, c11, a1, a2, a3, a4, a5, a6, a7, a8, a9, a10, a11, a12, a13, a14, a15, a16, a17, a18, a19, a20, a21, a22, a23, a24, a25)) :
    ∃ n, wX_takeBits_4 post (nI c) c0 c1 c2 c4 c5 c6 c7 c8 c9 c10 c11 a1 a2 a3 a4 a5 a6 a7 a8 a9 a10 a11 a12 a13 a14 a15 a16 a17 a18 a19 a20 a21 a22 a23 a24 a25 n 0 0 (nI o) := by
  refine pk_loop (fun n i s => wX_takeBits_4 post (nI c) c0 c1 c2 c4 c5 c6 c7 c8 c9 c10 c11 a1 a2 a3 a4 a5 a6 a7 a8 a9 a10 a11 a12 a13 a14 a15 a16 a17 a18 a19 a20 a21 a22 a23 a24 a25 n (nI s) (nI i) (nI (o + i))) (fun i s => s = V / 2 ^ (c - i)) c 0 0 (Nat.zero_le c) ?_ ?_ ?_
  · exact (Nat.div_eq_of_lt hV).symm
  · intro n s h
    have e : s = V := by rw [h, Nat.sub_self, Nat.pow_zero, Nat.div_one]
    subst e
    exact pk_le c c (fun _ => H) (fun z => absurd z (by omega))
  · intro n i s hi h hw
    have hp : o + i < 2 ^ 31 := by omega
    have hin : vp_in (nI (o + i) >>> ((5 : Int32) &&& 31)) 656 := pk_in ((o + i) / 32) 656 (by omega) (qb_ix hp)
    have e : (2 : Int32) * nI s + ((((a22 (nI (o + i) >>> ((5 : Int32) &&& 31)).toNatClampNeg).toUInt32 >>> ((nI (o + i) &&& 31).toUInt32 &&& Int32.toUInt32 31)).toInt32) &&& 1) = nI (V / 2 ^ (c - (i + 1))) := by
      rw [pk_cl ((o + i) / 32) (qb_ix hp) (by omega), qb_get _ hp, ← qb_more hi, ← h]
      rw [show (a22 ((o + i) / 32)).toBitVec.getLsbD ((o + i) % 32) = V.testBit (c - 1 - i) from hb i hi]
      rw [show (2 : Int32) * nI s = nI (2 * s) from pk_mul 2 s]
      exact nI_add _ _
    exact pk_le c i (fun z => absurd z (by omega)) (fun _ => ⟨hin, nm_r e (nm_r (nI_1 (o + i)) (nm_r (nI_1 i) (hw _ rfl)))⟩)
theorem wa_take {post : Int32 → St2 → Prop} {p0 : Int32} (o c V : Nat) (e1 : p0 = nI c) (ho : o + c ≤ 20992) (hV : V < 2 ^ c) (hc : c ≤ 30) {c0 c1 c2 c3 c4 c5 c6 c7 c8 c9 c10 c11 : Int32} {a1 a2 a3 a4 a5 a6 a7 a8 a9 a10 a11 a12 a13 a14 a15 a16 a17 a18 a19 a20 a21 a22 a23 a24 a25 : Nat → Int32} (e0 : c3 = nI o)
    (hb : ∀ j, j < c → qb_at a22 (o + j) = V.testBit (c - 1 - j)) (H : post (nI V) (c0, c1, c2, nI (o + c), c4, c5, c6, c7, c8, c9, c10, c11, a1, a2, a3, a4, a5, a6, a7, a8, a9, a10, a11, a12, a13, a14, a15, a16, a17, a18, a19, a20, a21, a22, a23, a24, a25)) :
    wpX_takeBits post (c0, c1, c2, c3, c4, c5, c6, c7, c8, c9, c10, c11, a1, a2, a3, a4, a5, a6, a7, a8, a9, a10, a11, a12, a13, a14, a15, a16, a17, a18, a19, a20, a21, a22, a23, a24, a25) p0 := by
  subst e0 e1
  exact wa_take4 (c3 := 0) ho hV hc hb H
end
section
/-! the picture of a state; series, openBlock, pack, append -/
/-- block 0 holds the one sample (t, v) -/
def pc_blk (t v : Int32) (a10 a12 a13 a14 a15 a18 a19 a22 : Nat → Int32) : Prop :=
  a10 0 = -1 ∧ a12 0 = 1 ∧ a13 0 = 0 ∧ a14 0 = t ∧ a15 0 = t ∧ a18 0 = v ∧ a19 0 = v ∧ ∃ T P : Nat, t = nI T ∧ T < 1000 ∧ fo_ok v P ∧ (∀ j, j < 10 → qb_at a22 (19200 + j) = T.testBit (10 - 1 - j)) ∧ (∀ j, j < 11 → qb_at a22 (19210 + j) = P.testBit (11 - 1 - j))
/-- which series have a label's value -/
def pc_hav (mk : Bool) (lb : Nat) (a8 : Nat → Int32) : Prop := ∀ l d, l < 3 → d < 4 → a8 (4 * l + d) = qb_I (mk && (lb / 4 ^ l % 4 == d))
/-- mk: a series (labels lb) is there; pt: its one sample (t, v) is there -/
def pc_ok (mk pt : Bool) (lb : Nat) (t v : Int32) (u : St2) : Prop := match u with
  | (c0, c1, c2, c3, c4, c5, c6, c7, c8, c9, c10, c11, a1, a2, a3, a4, a5, a6, a7, a8, a9, a10, a11, a12, a13, a14, a15, a16, a17, a18, a19, a20, a21, a22, a23, a24, a25) => c0 = qb_I mk ∧ c11 = 2 ∧ a2 0 = 0 ∧ pc_hav mk lb a8 ∧ a9 0 = qb_I pt ∧ (pt = true → pc_blk t v a10 a12 a13 a14 a15 a18 a19 a22)
/-- no sample yet -/
def pc_fr (mk : Bool) (lb : Nat) (u : St2) : Prop := match u with
  | (c0, c1, c2, c3, c4, c5, c6, c7, c8, c9, c10, c11, a1, a2, a3, a4, a5, a6, a7, a8, a9, a10, a11, a12, a13, a14, a15, a16, a17, a18, a19, a20, a21, a22, a23, a24, a25) => c0 = qb_I mk ∧ c11 = 2 ∧ a2 0 = 0 ∧ pc_hav mk lb a8 ∧ a9 0 = 0 ∧ (mk = true → a3 0 = 0 ∧ a6 0 = -1)
theorem se_ix : ∀ lb, lb < 64 → ∀ i, i < 3 → (4 * nI i) + ((nI lb >>> ((2 * nI i) &&& 31)) &&& 3) = nI (4 * i + lb / 4 ^ i % 4) := by decide +kernel
theorem se_or {x : Int32} (b : Bool) (h : x = qb_I b) : (x ||| ((1 : Int32) <<< ((0 : Int32) &&& 31))).toInt16.toInt32 = 1 := by
  subst h
  cases b <;> decide
theorem se_up {s : Nat → Int32} {lb i : Nat} (h : ∀ l d, l < 3 → d < 4 → s (4 * l + d) = qb_I (decide (l < i) && (lb / 4 ^ l % 4 == d))) :
    ∀ l d, l < 3 → d < 4 → upd s (4 * i + lb / 4 ^ i % 4) 1 (4 * l + d) = qb_I (decide (l < i + 1) && (lb / 4 ^ l % 4 == d)) := by
  intro l d hl hd
  have hv : lb / 4 ^ i % 4 < 4 := Nat.mod_lt _ (by omega)
  by_cases e : l = i
  · subst e
    by_cases e2 : lb / 4 ^ l % 4 = d
    · rw [e2, pk_us]
      simp [qb_I]
    · rw [pk_un (by omega), h l d hl hd]
      simp [qb_I, e2]
  · rw [pk_un (by omega), h l d hl hd]
    have e3 : decide (l < i) = decide (l < i + 1) := by
      apply decide_eq_decide.mpr
      omega
    rw [e3]
theorem se_110 {post : Int32 → St2 → Prop} {lb : Nat} (hlb : lb < 64) {c0 c1 c2 c3 c4 c5 c6 c7 c8 c9 c10 c11 : Int32} {a1 a2 a3 a4 a5 a6 a7 a8 a9 a10 a11 a12 a13 a14 a15 a16 a17 a18 a19 a20 a21 a22 a23 a24 a25 : Nat → Int32} (h8 : ∀ j, a8 j = 0)
    (H : ∀ s : Nat → Int32, pc_hav true lb s → post 0 (c0, c1, c2, c3, c4, c5, c6, c7, c8, c9, c10, c11, a1, a2, a3, a4, a5, a6, a7, s, a9, a10, a11, a12, a13, a14, a15, a16, a17, a18, a19, a20, a21, a22, a23, a24, a25)) :
    ∃ n, wX_series_110 post (nI lb) 0 c0 c1 c2 c3 c4 c5 c6 c7 c8 c9 c10 c11 n 0 a1 a2 a3 a4 a5 a6 a7 a8 a9 a10 a11 a12 a13 a14 a15 a16 a17 a18 a19 a20 a21 a22 a23 a24 a25 := by
  refine pk_loop (fun n i s => wX_series_110 post (nI lb) 0 c0 c1 c2 c3 c4 c5 c6 c7 c8 c9 c10 c11 n (nI i) a1 a2 a3 a4 a5 a6 a7 s a9 a10 a11 a12 a13 a14 a15 a16 a17 a18 a19 a20 a21 a22 a23 a24 a25) (fun i s => ∀ l d, l < 3 → d < 4 → s (4 * l + d) = qb_I (decide (l < i) && (lb / 4 ^ l % 4 == d))) 3 0 a8 (by omega) ?_ ?_ ?_
  · intro l d hl hd
    rw [h8]
    simp [qb_I]
  · intro n s h
    refine pk_le 3 3 (fun _ => H s (fun l d hl hd => ?_)) (fun z => absurd z (by omega))
    rw [h l d hl hd, decide_eq_true hl]
  · intro n i s hi h hw
    have hv : lb / 4 ^ i % 4 < 4 := Nat.mod_lt _ (by omega)
    have hix := se_ix lb hlb i hi
    have hin : vp_in ((4 * nI i) + ((nI lb >>> ((2 * nI i) &&& 31)) &&& 3)) 12 := pk_in (4 * i + lb / 4 ^ i % 4) 12 (by omega) hix
    refine pk_le 3 i (fun z => absurd z (by omega)) (fun _ => ⟨hin, hin, nm_r ?_ (nm_r (nI_1 i) (hw _ (se_up h)))⟩)
    rw [pk_cl (4 * i + lb / 4 ^ i % 4) hix (by omega), se_or _ (h i _ hi hv)]
theorem se_ok {post : Int32 → St2 → Prop} {p0 : Int32} (H0 : p0 < 0 ∨ 63 < p0 → ∀ u, pc_fr false 0 u → post (-10000) u) (H1 : ∀ lb : Nat, lb < 64 → p0 = nI lb → ∀ u, pc_fr true lb u → post 0 u) :
    wpX_series post (0, 0, 0, 0, 0, 0, 0, 0, 0, 0, 0, 2, (fun _ => 0), (fun _ => 0), (fun _ => 0), (fun _ => 0), (fun _ => 0), (fun _ => 0), (fun _ => 0), (fun _ => 0), (fun _ => 0), (fun _ => 0), (fun _ => 0), (fun _ => 0), (fun _ => 0), (fun _ => 0), (fun _ => 0), (fun _ => 0), (fun _ => 0), (fun _ => 0), (fun _ => 0), (fun _ => 0), (fun _ => 0), (fun _ => 0), (fun _ => 0), (fun _ => 0), (fun _ => 0)) p0 := by
  have hz : pc_fr false 0 (0, 0, 0, 0, 0, 0, 0, 0, 0, 0, 0, 2, (fun _ => 0), (fun _ => 0), (fun _ => 0), (fun _ => 0), (fun _ => 0), (fun _ => 0), (fun _ => 0), (fun _ => 0), (fun _ => 0), (fun _ => 0), (fun _ => 0), (fun _ => 0), (fun _ => 0), (fun _ => 0), (fun _ => 0), (fun _ => 0), (fun _ => 0), (fun _ => 0), (fun _ => 0), (fun _ => 0), (fun _ => 0), (fun _ => 0), (fun _ => 0), (fun _ => 0), (fun _ => 0)) :=
    ⟨rfl, rfl, rfl, fun l d _ _ => rfl, rfl, fun z => absurd z (by decide)⟩
  refine br_c (fun z => H0 (Or.inl z) _ hz) (fun z => br_c (fun z2 => ?_) (fun z2 => H0 (Or.inr (Int32.not_le.mp z2)) _ hz))
  obtain ⟨lb, hlb, e⟩ := nI_of2 (M := 63) (n := 63) (by decide) z z2
  have in8 : vp_in (0 : Int32) 8 := pk_in 0 8 (by omega)
  have hlb' : lb < 64 := by omega
  subst e
  refine ⟨1, br_t (by decide) (br_t (by decide) (nm_r (e' := 1) (by decide) ⟨in8, nm_e ⟨in8, nm_e ⟨in8, nm_e ⟨in8, nm_e ⟨in8, nm_e ?_⟩⟩⟩⟩⟩))⟩
  refine se_110 hlb' (fun _ => rfl) (fun s hs => H1 lb hlb' rfl _ ?_)
  exact ⟨rfl, rfl, ix_up rfl, hs, ix_up rfl, fun _ => ⟨ix_up rfl, ix_up rfl⟩⟩
theorem wa_isS {post : Int32 → Prop} {mk : Bool} {p0 : Int32} {c0 c1 c2 c3 c4 c5 c6 c7 c8 c9 c10 c11 : Int32} {a1 a2 a3 a4 a5 a6 a7 a8 a9 a10 a11 a12 a13 a14 a15 a16 a17 a18 a19 a20 a21 a22 a23 a24 a25 : Nat → Int32} (h0 : c0 = qb_I mk) (H0 : ¬ (mk = true ∧ p0 = 0) → post 0) (H1 : mk = true → p0 = 0 → post 1) : wpX_isSeries post (c0, c1, c2, c3, c4, c5, c6, c7, c8, c9, c10, c11, a1, a2, a3, a4, a5, a6, a7, a8, a9, a10, a11, a12, a13, a14, a15, a16, a17, a18, a19, a20, a21, a22, a23, a24, a25) p0 := by
  subst h0
  refine br_c (fun z => H0 (fun w => absurd z (by rw [w.2]; decide))) (fun z => ?_)
  cases mk
  · exact br_c (fun z2 => H0 (fun w => absurd w.1 (by decide))) (fun z2 => absurd (Int32.not_lt.mp z) z2)
  · exact br_c (fun z2 => H0 (fun w => absurd z2 (by rw [w.2]; decide))) (fun z2 => H1 rfl (ix_0 z z2))
theorem ob_ok {post : St2 → Prop} {t v : Int32} {T P : Nat} (ht : t = nI T) (hT : T < 1000) (hf : fo_ok v P) {c0 c1 c2 c3 c4 c5 c6 c7 c8 c9 c10 c11 : Int32} {a1 a2 a3 a4 a5 a6 a7 a8 a9 a10 a11 a12 a13 a14 a15 a16 a17 a18 a19 a20 a21 a22 a23 a24 a25 : Nat → Int32} (h9 : a9 0 = 0) (h3 : a3 0 = 0)
    (H : ∀ b9 b10 b11 b12 b13 b14 b15 b16 b17 b18 b19 b20 b21 b22 b23 : Nat → Int32, b9 0 = 1 → pc_blk t v b10 b12 b13 b14 b15 b18 b19 b22 → post (c0, c1, c2, c3, c4, c5, c6, c7, c8, c9, c10, c11, a1, a2, a3, a4, a5, a6, a7, a8, b9, b10, b11, b12, b13, b14, b15, b16, b17, b18, b19, b20, b21, b22, b23, a24, a25)) :
    wpX_openBlock post (c0, c1, c2, c3, c4, c5, c6, c7, c8, c9, c10, c11, a1, a2, a3, a4, a5, a6, a7, a8, a9, a10, a11, a12, a13, a14, a15, a16, a17, a18, a19, a20, a21, a22, a23, a24, a25) 0 t v := by
  have in8 : vp_in (0 : Int32) 8 := pk_in 0 8 (by omega)
  have in96 : vp_in (0 : Int32) 96 := pk_in 0 96 (by omega)
  have h9' : a9 (0 : Int32).toNatClampNeg = 0 := by rw [sb_cl0]; exact h9
  have h3' : a3 (0 : Int32).toNatClampNeg = 0 := by rw [sb_cl0]; exact h3
  have e4 : (12 : Int32) * 0 + a9 (0 : Int32).toNatClampNeg = 0 := by rw [h9']; decide
  have t16 : t.toInt16.toInt32 = t := by rw [ht]; exact fo_T16 T hT
  have v16 : v.toInt16.toInt32 = v := hf.2.2.2.2.2.1
  refine ⟨in8, nm_r e4 ⟨in8, in8, nm_e ⟨in96, nm_e ⟨in96, nm_e ⟨in8, in96, nm_e ⟨in96, nm_e ⟨in96, nm_e ⟨in96, nm_e ⟨in96, nm_e ⟨in96, nm_e ⟨in96, nm_e ⟨in96, nm_e ⟨in96, nm_e ⟨in8, nm_e ?_⟩⟩⟩⟩⟩⟩⟩⟩⟩⟩⟩⟩⟩⟩
  refine wa_slot ?_
  refine wa_put 19200 10 T (by decide) rfl ht (by omega) (by omega) (by omega) (fun s hs => ?_)
  refine wa_fold hf ?_
  refine wa_put 19210 11 P (by decide) rfl rfl (by omega) (by have := hf.1; omega) (by omega) (fun s' hs' => ?_)
  refine ⟨in96, nm_e ?_⟩
  refine H _ _ _ _ _ _ _ _ _ _ _ _ _ _ _ (ix_up (by rw [h9']; decide)) ⟨ix_up rfl, ix_up rfl, ix_up h3', ix_up t16, ix_up t16, ix_up v16, ix_up v16, T, P, ht, hT, hf, ?_, ?_⟩
  · intro j hj
    rw [hs', if_neg (by omega), hs, if_pos (by omega), show 19200 + j - 19200 = j by omega]
  · intro j hj
    rw [hs', if_pos (by omega), show 19210 + j - 19210 = j by omega]
theorem ob_pack {post : St2 → Prop} {t v : Int32} {T P : Nat} (ht : t = nI T) (hT : T < 1000) (hf : fo_ok v P) {c0 c1 c2 c3 c4 c5 c6 c7 c8 c9 c10 c11 : Int32} {a1 a2 a3 a4 a5 a6 a7 a8 a9 a10 a11 a12 a13 a14 a15 a16 a17 a18 a19 a20 a21 a22 a23 a24 a25 : Nat → Int32} (h9 : a9 0 = 0) (h3 : a3 0 = 0)
    (H : ∀ b9 b10 b11 b12 b13 b14 b15 b16 b17 b18 b19 b20 b21 b22 b23 : Nat → Int32, b9 0 = 1 → pc_blk t v b10 b12 b13 b14 b15 b18 b19 b22 → post (c0, c1, c2, c3, c4, c5, c6, c7, c8, c9, c10, c11, a1, a2, a3, a4, a5, a6, a7, a8, b9, b10, b11, b12, b13, b14, b15, b16, b17, b18, b19, b20, b21, b22, b23, a24, a25)) :
    wpX_pack post (c0, c1, c2, c3, c4, c5, c6, c7, c8, c9, c10, c11, a1, a2, a3, a4, a5, a6, a7, a8, a9, a10, a11, a12, a13, a14, a15, a16, a17, a18, a19, a20, a21, a22, a23, a24, a25) 0 t v := by
  have in8 : vp_in (0 : Int32) 8 := pk_in 0 8 (by omega)
  have h9' : a9 (0 : Int32).toNatClampNeg = 0 := by rw [sb_cl0]; exact h9
  refine ⟨in8, nm_e ⟨in8, br_t h9' ?_⟩⟩
  unfold wX_pack_35
  exact ob_ok ht hT hf h9 h3 H
/-- what append asks of its arguments -/
def ap_c (mk : Bool) (p0 p1 p2 : Int32) : Prop := mk = true ∧ p0 = 0 ∧ ¬ p1 < 0 ∧ ¬ 999 < p1 ∧ ¬ p2 < (-1000) ∧ p2 ≤ 1000
theorem ap_ok {post : Int32 → St2 → Prop} {mk : Bool} {lb : Nat} {p0 p1 p2 : Int32} {u : St2} (h : pc_fr mk lb u)
    (H0 : ¬ ap_c mk p0 p1 p2 → ∀ t v, pc_ok mk false lb t v u → post (-10000) u) (H1 : ap_c mk p0 p1 p2 → ∀ r u', r = 1 → pc_ok true true lb p1 p2 u' → post r u') :
    wpX_append post u p0 p1 p2 := by
  obtain ⟨c0, c1, c2, c3, c4, c5, c6, c7, c8, c9, c10, c11, a1, a2, a3, a4, a5, a6, a7, a8, a9, a10, a11, a12, a13, a14, a15, a16, a17, a18, a19, a20, a21, a22, a23, a24, a25⟩ := u
  obtain ⟨h0, h11, h2, h8, h9, hm⟩ := h
  have K : ¬ ap_c mk p0 p1 p2 → post (-10000) (c0, c1, c2, c3, c4, c5, c6, c7, c8, c9, c10, c11, a1, a2, a3, a4, a5, a6, a7, a8, a9, a10, a11, a12, a13, a14, a15, a16, a17, a18, a19, a20, a21, a22, a23, a24, a25) := fun z => H0 z 0 0 ⟨h0, h11, h2, h8, h9, fun z => absurd z (by decide)⟩
  unfold wpX_append
  refine wa_isS (mk := mk) h0 (fun z => br_t rfl (K (fun w => z ⟨w.1, w.2.1⟩))) (fun e1 e2 => br_f (by decide) ?_)
  refine br_c (fun z => K (fun w => w.2.2.1 z)) (fun z1 => br_c (fun z => K (fun w => w.2.2.2.1 z)) (fun z2 => br_c (fun z => K (fun w => w.2.2.2.2.1 z)) (fun z3 => br_c (fun z4 => ?_) (fun z => K (fun w => z w.2.2.2.2.2)))))
  obtain ⟨h3, h6⟩ := hm e1
  obtain ⟨T, hT, ht⟩ := nI_of2 (M := 999) (n := 999) (by decide) z1 (Int32.not_lt.mp z2)
  obtain ⟨P, hf⟩ := fo_ex z3 z4
  have hc : ap_c mk p0 p1 p2 := ⟨e1, e2, z1, z2, z3, z4⟩
  subst e2
  have in8 : vp_in (0 : Int32) 8 := pk_in 0 8 (by omega)
  have h2' : a2 (0 : Int32).toNatClampNeg = 0 := by rw [sb_cl0]; exact h2
  have h3' : a3 (0 : Int32).toNatClampNeg = 0 := by rw [sb_cl0]; exact h3
  have h6' : a6 (0 : Int32).toNatClampNeg = -1 := by rw [sb_cl0]; exact h6
  have g6 : a6 (0 : Int32).toNatClampNeg < p1 := by
    rw [h6']
    rw [Int32.lt_iff_toInt_lt] at z1 ⊢
    have x0 : (0 : Int32).toInt = 0 := by decide
    have x1 : (-1 : Int32).toInt = -1 := by decide
    omega
  have g32 : a3 (0 : Int32).toNatClampNeg - a2 (0 : Int32).toNatClampNeg < 32 := by
    rw [h3', h2']
    decide
  refine ⟨in8, br_t g6 ⟨in8, in8, br_t g32 ?_⟩⟩
  refine ob_pack ht (by omega) hf h9 h3 (fun b9 b10 b11 b12 b13 b14 b15 b16 b17 b18 b19 b20 b21 b22 b23 k9 kb => ?_)
  refine ⟨in8, nm_e ⟨in8, in8, nm_e ⟨in8, in8, ?_⟩⟩⟩
  refine H1 hc _ _ ?_ ⟨by rw [h0, e1], h11, h2, by rw [← e1]; exact h8, k9, fun _ => kb⟩
  rw [sb_cl0, pk_us, h2, h3]
  decide
end
section
/-! matching, isPresent, askBlock, ask, sum, least -/
theorem mt_gb {mk b : Bool} {d v : Nat} (h : d = 4) : (b && ft_g mk d v) = b := by
  subst h
  simp [ft_g]
theorem mt_step {post : Int32 → Prop} {x2 : Int32} {n : Nat} {mk b : Bool} {lb m l : Nat} (hl : l < 3) (hm : m < 1000) {c0 c1 c2 c3 c4 c5 c6 c7 c8 c9 c10 c11 : Int32} {a1 a2 a3 a4 a5 a6 a7 a8 a9 a10 a11 a12 a13 a14 a15 a16 a17 a18 a19 a20 a21 a22 a23 a24 a25 : Nat → Int32} (ha : pc_hav mk lb a8)
    (H : wX_matching_29 post x2 c0 c1 c2 c3 c4 c5 c6 c7 c8 c9 c10 c11 a1 a2 a3 a4 a5 a6 a7 a8 a9 a10 a11 a12 a13 a14 a15 a16 a17 a18 a19 a20 a21 a22 a23 a24 a25 n (qb_I (b && ft_g mk (m % 9) (lb / 4 ^ l % 4))) (nI (m / 9)) (nI (l + 1))) :
    wX_matching_29 post x2 c0 c1 c2 c3 c4 c5 c6 c7 c8 c9 c10 c11 a1 a2 a3 a4 a5 a6 a7 a8 a9 a10 a11 a12 a13 a14 a15 a16 a17 a18 a19 a20 a21 a22 a23 a24 a25 (n + 1) (qb_I b) (nI m) (nI l) := by
  have h9 : m % 9 < 9 := Nat.mod_lt _ (by omega)
  have em : nI m - nI m / 9 * 9 = nI (m % 9) := pk_rem (d := 9) (by omega) (by omega) (by omega)
  have ed : nI m / 9 = nI (m / 9) := pk_div (d := 9) (by omega) (by omega) (by omega)
  refine pk_le 3 l (fun z => absurd z (by omega)) (fun _ => ⟨by decide, nm_r em ⟨by decide, nm_r ed ?_⟩⟩)
  have e4 : (4 : Int32) * nI l = nI (4 * l) := pk_mul 4 l
  refine pk_le 4 (m % 9) (fun h4 => pk_le (m % 9) 4 (fun h5 => nm_r (nI_1 l) ?_) (fun h5 => ?_)) (fun h4 => ?_)
  · rw [mt_gb (by omega)] at H
    exact H
  · have ei : (((4 : Int32) * nI l) + nI (m % 9)) - 5 = nI (4 * l + (m % 9 - 5)) := by
      rw [e4, nI_add, show nI (4 * l + m % 9) - 5 = nI (4 * l + m % 9 - 5) from pk_sub (b := 5) (by omega), show 4 * l + m % 9 - 5 = 4 * l + (m % 9 - 5) by omega]
    refine ⟨pk_in (4 * l + (m % 9 - 5)) 12 (by omega) ei, nm_r ?_ (nm_r (nI_1 l) H)⟩
    rw [pk_cl (4 * l + (m % 9 - 5)) ei (by omega), ha l (m % 9 - 5) hl (by omega), qb_andN]
    have e : ft_g mk (m % 9) (lb / 4 ^ l % 4) = !(mk && (lb / 4 ^ l % 4 == m % 9 - 5)) := by
      unfold ft_g
      rw [if_neg (by omega), show (m % 9 == 4) = false from beq_false_of_ne (by omega), Bool.false_or]
    rw [e]
  · have ei : ((4 : Int32) * nI l) + nI (m % 9) = nI (4 * l + m % 9) := by
      rw [e4, nI_add]
    refine ⟨pk_in (4 * l + m % 9) 12 (by omega) ei, nm_r ?_ (nm_r (nI_1 l) H)⟩
    rw [pk_cl (4 * l + m % 9) ei (by omega), ha l (m % 9) hl (by omega), qb_and]
    have e : ft_g mk (m % 9) (lb / 4 ^ l % 4) = (mk && (lb / 4 ^ l % 4 == m % 9)) := by
      unfold ft_g
      rw [if_pos (by omega)]
    rw [e]
theorem mt_all (mk : Bool) : ((1 : Int32) <<< (qb_I mk &&& 31)) - 1 = qb_I mk := by
  cases mk <;> decide
theorem mt_ok {post : Int32 → Prop} {mk pt : Bool} {lb : Nat} {t v p0 : Int32} {u : St2} (hlb : lb < 64) (h : pc_ok mk pt lb t v u) (H0 : p0 < 0 ∨ 728 < p0 → post (-10000)) (H1 : ∀ m : Nat, m ≤ 728 → p0 = nI m → post (qb_I (mk && ft_M lb m))) :
    wpX_matching post u p0 := by
  obtain ⟨c0, c1, c2, c3, c4, c5, c6, c7, c8, c9, c10, c11, a1, a2, a3, a4, a5, a6, a7, a8, a9, a10, a11, a12, a13, a14, a15, a16, a17, a18, a19, a20, a21, a22, a23, a24, a25⟩ := u
  obtain ⟨h0, h11, h2, h8, h9, hb⟩ := h
  subst h0
  unfold wpX_matching
  refine wa_isM (fun z => br_t rfl (H0 z)) (fun m hm e => br_f (by decide) (nm_r (mt_all mk) ⟨4, ?_⟩))
  subst e
  refine mt_step (l := 0) (lb := lb) (mk := mk) (b := mk) (by omega) (by omega) h8 ?_
  refine mt_step (l := 1) (lb := lb) (mk := mk) (by omega) (by omega) h8 ?_
  refine mt_step (l := 2) (lb := lb) (mk := mk) (by omega) (by omega) h8 ?_
  refine pk_le 3 3 (fun _ => ?_) (fun z => absurd z (by omega))
  rw [qb_and, ft_sum hlb hm]
  exact H1 m hm rfl
theorem qa_blk {post : St2 → Prop} {t v p2 p3 : Int32} {c0 c1 c2 c3 c4 c5 c6 c7 c8 c9 c10 c11 : Int32} {a1 a2 a3 a4 a5 a6 a7 a8 a9 a10 a11 a12 a13 a14 a15 a16 a17 a18 a19 a20 a21 a22 a23 a24 a25 : Nat → Int32} (h11 : c11 = 2) (h2 : a2 0 = 0) (hB : pc_blk t v a10 a12 a13 a14 a15 a18 a19 a22) (h4 : c4 = 0) (h5 : c5 = 0) (h6 : c6 = 2000) (h10 : c10 = 0)
    (hu : ¬ p3 < t) (H0 : t < p2 → post (c0, c1, c2, c3, c4, c5, c6, c7, c8, c9, c10, c11, a1, a2, a3, a4, a5, a6, a7, a8, a9, a10, a11, a12, a13, a14, a15, a16, a17, a18, a19, a20, a21, a22, a23, a24, a25)) (H1 : ¬ t < p2 → ∀ x y z w : Int32, post (c0, c1, c2, c3, 1, v, v, x, y, z, w, c11, a1, a2, a3, a4, a5, a6, a7, a8, a9, a10, a11, a12, a13, a14, a15, a16, a17, a18, a19, a20, a21, a22, a23, a24, a25)) :
    wpX_askBlock post (c0, c1, c2, c3, c4, c5, c6, c7, c8, c9, c10, c11, a1, a2, a3, a4, a5, a6, a7, a8, a9, a10, a11, a12, a13, a14, a15, a16, a17, a18, a19, a20, a21, a22, a23, a24, a25) 0 0 p2 p3 := by
  obtain ⟨k10, k12, k13, k14, k15, k18, k19, T, P, ht, hT, hf, _, _⟩ := hB
  have in8 : vp_in (0 : Int32) 8 := pk_in 0 8 (by omega)
  have in96 : vp_in (0 : Int32) 96 := pk_in 0 96 (by omega)
  rw [← sb_cl0] at h2 k10 k12 k13 k14 k15 k18 k19
  unfold wpX_askBlock
  refine ⟨in96, in96, in8, br_f (by rw [k13, k12, h2]; decide) (br_f (by decide) ⟨in96, br_f (by rw [k14]; exact hu) ⟨in96, br_c (fun z => ?_) (fun z => ?_)⟩⟩)⟩
  · rw [k15] at z
    have z' : ¬ t < p2 := Int32.not_lt.mpr z
    refine br_f (by rw [h11]; decide) ⟨in96, br_f (by rw [k14]; exact z') ⟨in96, br_f (by rw [k15]; exact hu) ⟨in96, in8, br_f (by rw [k13, h2]; decide) ?_⟩⟩⟩
    unfold wX_askBlock_79
    refine br_f (by decide) ⟨in96, nm_r (e' := 1) (by rw [h4, k12]; decide) ⟨in96, nm_r (e' := v) (by rw [h5, k18]; exact Int32.zero_add v) ⟨in96, br_f (by rw [h6, k19]; exact hf.2.2.2.2.2.2) ⟨in96, nm_r (e' := v) k19 ?_⟩⟩⟩⟩
    have K : ∀ x : Int32, wX_askBlock_162 post 0 c0 c1 c2 c3 1 v v x c8 c9 c10 c11 a1 a2 a3 a4 a5 a6 a7 a8 a9 a10 a11 a12 a13 a14 a15 a16 a17 a18 a19 a20 a21 a22 a23 a24 a25 := by
      intro x
      unfold wX_askBlock_162
      refine ⟨in96, ?_⟩
      unfold wpX_follow
      exact br_t h10 ⟨in96, nm_e ⟨in96, nm_e (H1 z' _ _ _ _)⟩⟩
    unfold wX_askBlock_139
    exact ⟨in96, br_c (fun _ => K _) (fun _ => ⟨in96, nm_e (K _)⟩)⟩
  · rw [k15] at z
    exact H0 (Int32.not_le.mp z)
/-- what ask leaves behind: tk says whether the sample was taken -/
def qa_fd (tk : Bool) (v : Int32) (u : St2) : Prop := match u with
  | (c0, c1, c2, c3, c4, c5, c6, c7, c8, c9, c10, c11, a1, a2, a3, a4, a5, a6, a7, a8, a9, a10, a11, a12, a13, a14, a15, a16, a17, a18, a19, a20, a21, a22, a23, a24, a25) => c4 = qb_I tk ∧ c5 = (if tk = true then v else 0) ∧ c6 = (if tk = true then v else 2000)
theorem qa_b0 (b : Bool) : (((qb_I b) >>> ((0 : Int32) &&& 31)) &&& 1) = qb_I b := by
  cases b <;> decide
theorem qa_ok {post : St2 → Prop} {mk pt : Bool} {lb m : Nat} {t v p1 p2 : Int32} {u : St2} (hlb : lb < 64) (hm : m ≤ 728) (h : pc_ok mk pt lb t v u) (hpm : pt = true → mk = true) (hu : pt = true → ¬ p2 < t)
    (H : ∀ u', pc_ok mk pt lb t v u' → qa_fd (pt && ((mk && ft_M lb m) && !decide (t < p1))) v u' → post u') :
    wpX_ask post u (nI m) p1 p2 := by
  have h' := h
  obtain ⟨c0, c1, c2, c3, c4, c5, c6, c7, c8, c9, c10, c11, a1, a2, a3, a4, a5, a6, a7, a8, a9, a10, a11, a12, a13, a14, a15, a16, a17, a18, a19, a20, a21, a22, a23, a24, a25⟩ := u
  obtain ⟨h0, h11, h2, h8, h9, hb⟩ := h'
  unfold wpX_ask
  refine mt_ok hlb h (fun z => ?_) (fun m' hm' e => ?_)
  · exact absurd z (fun z => z.elim (fun y => nI_pos (by omega) y) (fun y => nI_nlt (a := 728) hm (by omega) y))
  have em : m' = m := ((nI_eq (by omega) (by omega)).mp e).symm
  subst em
  have in8 : vp_in (0 : Int32) 8 := pk_in 0 8 (by omega)
  have h9' : a9 (0 : Int32).toNatClampNeg = qb_I pt := by rw [sb_cl0]; exact h9
  -- the state in which nothing was taken
  have hs : ∀ x : Int32, pc_ok mk pt lb t v (c0, c1, c2, c3, 0, 0, 2000, -2000, 0, c9, x, c11, a1, a2, a3, a4, a5, a6, a7, a8, a9, a10, a11, a12, a13, a14, a15, a16, a17, a18, a19, a20, a21, a22, a23, a24, a25) := fun x => ⟨h0, h11, h2, h8, h9, hb⟩
  cases mk
  · have ep : pt = false := by
      cases pt
      · rfl
      · exact absurd (hpm rfl) (by decide)
    subst ep
    exact ⟨1, br_t (by rw [h0]; decide) (H _ (hs _) ⟨rfl, rfl, rfl⟩)⟩
  · refine ⟨2, br_f (by rw [h0]; decide) ?_⟩
    cases hM : ft_M lb m'
    · rw [hM] at H
      refine br_t (by rw [qa_b0]; decide) (nm_r (e' := 1) (by decide) (br_t (by rw [h0]; decide) (H _ (hs _) ?_)))
      cases pt <;> exact ⟨rfl, rfl, rfl⟩
    · rw [hM] at H
      refine br_f (by rw [qa_b0]; decide) (nm_r (e' := 0) (by decide) ?_)
      cases pt
      · exact ⟨1, in8, br_t (by rw [h9']; decide) (nm_r (e' := 1) (by decide) (br_t (by rw [h0]; decide) (H _ (hs _) ⟨rfl, rfl, rfl⟩)))⟩
      · refine ⟨2, in8, br_f (by rw [h9']; decide) ?_⟩
        refine qa_blk h11 h2 (hb rfl) rfl rfl rfl rfl (hu rfl) (fun z => ?_) (fun z x y w w' => ?_)
        · refine nm_r (e' := 1) (by decide) ⟨in8, br_t (by rw [h9']; decide) (nm_r (e' := 1) (by decide) (br_t (by rw [h0]; decide) (H _ (hs _) ?_)))⟩
          rw [decide_eq_true z]
          exact ⟨rfl, rfl, rfl⟩
        · refine nm_r (e' := 1) (by decide) ⟨in8, br_t (by rw [h9']; decide) (nm_r (e' := 1) (by decide) (br_t (by rw [h0]; decide) (H _ ⟨h0, h11, h2, h8, h9, hb⟩ ?_)))⟩
          rw [decide_eq_false z]
          exact ⟨rfl, rfl, rfl⟩
theorem sm_ok {post : Int32 → St2 → Prop} {mk pt : Bool} {lb : Nat} {t v p0 p1 p2 : Int32} {u : St2} (hlb : lb < 64) (h : pc_ok mk pt lb t v u) (hpm : pt = true → mk = true) (hu : pt = true → ¬ p2 < t)
    (H0 : p0 < 0 ∨ 728 < p0 → post 0 u) (H1 : ∀ m : Nat, m ≤ 728 → p0 = nI m → ∀ r u', r = (if (pt && ((mk && ft_M lb m) && !decide (t < p1))) = true then v else 0) → pc_ok mk pt lb t v u' → post r u') :
    wpX_sum post u p0 p1 p2 := by
  have h' := h
  obtain ⟨c0, c1, c2, c3, c4, c5, c6, c7, c8, c9, c10, c11, a1, a2, a3, a4, a5, a6, a7, a8, a9, a10, a11, a12, a13, a14, a15, a16, a17, a18, a19, a20, a21, a22, a23, a24, a25⟩ := u
  unfold wpX_sum
  refine wa_isM (fun z => br_t rfl (H0 z)) (fun m hm e => br_f (by decide) ?_)
  have H1' := H1 m hm e
  subst e
  refine qa_ok hlb hm h hpm hu (fun u' k kf => ?_)
  obtain ⟨d0, d1, d2, d3, d4, d5, d6, d7, d8, d9, d10, d11, b1, b2, b3, b4, b5, b6, b7, b8, b9, b10, b11, b12, b13, b14, b15, b16, b17, b18, b19, b20, b21, b22, b23, b24, b25⟩ := u'
  exact H1' _ _ kf.2.1 k
theorem ls_ok {post : Int32 → St2 → Prop} {mk pt : Bool} {lb : Nat} {t v p0 p1 p2 : Int32} {u : St2} (hlb : lb < 64) (h : pc_ok mk pt lb t v u) (hpm : pt = true → mk = true) (hu : pt = true → ¬ p2 < t)
    (H0 : p0 < 0 ∨ 728 < p0 → post (-10000) u) (H1 : ∀ m : Nat, m ≤ 728 → p0 = nI m → ∀ r u', r = (if (pt && ((mk && ft_M lb m) && !decide (t < p1))) = true then v else -10003) → pc_ok mk pt lb t v u' → post r u') :
    wpX_least post u p0 p1 p2 := by
  have h' := h
  obtain ⟨c0, c1, c2, c3, c4, c5, c6, c7, c8, c9, c10, c11, a1, a2, a3, a4, a5, a6, a7, a8, a9, a10, a11, a12, a13, a14, a15, a16, a17, a18, a19, a20, a21, a22, a23, a24, a25⟩ := u
  unfold wpX_least
  refine wa_isM (fun z => br_t rfl (H0 z)) (fun m hm e => br_f (by decide) ?_)
  have H1' := H1 m hm e
  subst e
  refine qa_ok hlb hm h hpm hu (fun u' k kf => ?_)
  obtain ⟨d0, d1, d2, d3, d4, d5, d6, d7, d8, d9, d10, d11, b1, b2, b3, b4, b5, b6, b7, b8, b9, b10, b11, b12, b13, b14, b15, b16, b17, b18, b19, b20, b21, b22, b23, b24, b25⟩ := u'
  obtain ⟨f4, f5, f6⟩ := kf
  cases hk : (pt && ((mk && ft_M lb m) && !decide (t < p1)))
  · rw [hk] at f4 H1'
    exact br_t f4 (H1' _ _ rfl k)
  · rw [hk] at f4 f6 H1'
    exact br_f (by rw [f4]; decide) (H1' _ _ f6 k)
end
section
/-! unpack of a block of one sample, latestIn, at -/
theorem un_ok {post : St2 → Prop} {t v : Int32} {c0 c1 c2 c3 c4 c5 c6 c7 c8 c9 c10 c11 : Int32} {a1 a2 a3 a4 a5 a6 a7 a8 a9 a10 a11 a12 a13 a14 a15 a16 a17 a18 a19 a20 a21 a22 a23 a24 a25 : Nat → Int32} (hB : pc_blk t v a10 a12 a13 a14 a15 a18 a19 a22)
    (H : ∀ (x : Int32) (b24 b25 : Nat → Int32), b24 0 = t → b25 0 = v → post (c0, c1, c2, x, c4, c5, c6, c7, c8, c9, c10, c11, a1, a2, a3, a4, a5, a6, a7, a8, a9, a10, a11, a12, a13, a14, a15, a16, a17, a18, a19, a20, a21, a22, a23, b24, b25)) :
    wpX_unpack post (c0, c1, c2, c3, c4, c5, c6, c7, c8, c9, c10, c11, a1, a2, a3, a4, a5, a6, a7, a8, a9, a10, a11, a12, a13, a14, a15, a16, a17, a18, a19, a20, a21, a22, a23, a24, a25) 0 := by
  obtain ⟨k10, k12, k13, k14, k15, k18, k19, T, P, ht, hT, hf, hb1, hb2⟩ := hB
  have in96 : vp_in (0 : Int32) 96 := pk_in 0 96 (by omega)
  rw [← sb_cl0] at k10 k12
  have hP := hf.1
  unfold wpX_unpack
  refine ⟨in96, br_t k10 ⟨by decide, wa_slot ?_⟩⟩
  unfold wX_unpack_28
  refine wa_take 19200 10 T rfl (by omega) (by omega) (by omega) (by decide) hb1 ?_
  refine wa_take 19210 11 P rfl (by omega) (by omega) (by omega) rfl hb2 ?_
  refine wa_unfold hf ?_
  refine nm_e (nm_e ⟨1, in96, br_t (by rw [k12]; decide) (H _ _ _ ?_ ?_)⟩)
  · rw [pk_us, ht]
    exact fo_T16 T hT
  · rw [pk_us]
    exact hf.2.2.2.2.2.1
theorem un_last {post : Int32 → St2 → Prop} {t v p2 : Int32} {c0 c1 c2 c3 c4 c5 c6 c7 c8 c9 c10 c11 : Int32} {a1 a2 a3 a4 a5 a6 a7 a8 a9 a10 a11 a12 a13 a14 a15 a16 a17 a18 a19 a20 a21 a22 a23 a24 a25 : Nat → Int32} (h2 : a2 0 = 0) (hB : pc_blk t v a10 a12 a13 a14 a15 a18 a19 a22) (g1 : ¬ p2 < t) (g2 : ¬ t ≤ p2 - 50)
    (H : ∀ u', post v u') : wpX_latestIn post (c0, c1, c2, c3, c4, c5, c6, c7, c8, c9, c10, c11, a1, a2, a3, a4, a5, a6, a7, a8, a9, a10, a11, a12, a13, a14, a15, a16, a17, a18, a19, a20, a21, a22, a23, a24, a25) 0 0 p2 := by
  have in8 : vp_in (0 : Int32) 8 := pk_in 0 8 (by omega)
  have in96 : vp_in (0 : Int32) 96 := pk_in 0 96 (by omega)
  unfold wpX_latestIn
  refine un_ok hB (fun x b24 b25 k24 k25 => ?_)
  obtain ⟨k10, k12, k13, k14, k15, k18, k19, _⟩ := hB
  rw [← sb_cl0] at h2 k12 k13 k24 k25
  refine ⟨2, in96, br_f (by rw [k12]; decide) ⟨in8, br_f (by rw [k24]; exact g1) ⟨in8, br_f (by rw [k24]; exact g2) ⟨in96, in8, br_f (by rw [k13, h2]; decide) ⟨in8, nm_r k25 (nm_r (e' := 1) (by decide) ⟨in96, br_t (by rw [k12]; decide) (H _)⟩)⟩⟩⟩⟩⟩
theorem un_at {post : Int32 → St2 → Prop} {mk pt : Bool} {lb : Nat} {t v p1 : Int32} {u : St2} (h : pc_ok mk pt lb t v u)
    (HB : mk = false ∨ p1 < 0 ∨ ¬ p1 ≤ 999 → ∀ u', post (-10000) u')
    (HN : mk = true → ¬ p1 < 0 → p1 ≤ 999 → pt = false ∨ p1 < t ∨ t ≤ p1 - 50 → ∀ u', post (-10003) u')
    (HV : mk = true → ¬ p1 < 0 → p1 ≤ 999 → pt = true → ¬ p1 < t → ¬ t ≤ p1 - 50 → ∀ u', post v u') : wpX_at post u 0 p1 := by
  obtain ⟨c0, c1, c2, c3, c4, c5, c6, c7, c8, c9, c10, c11, a1, a2, a3, a4, a5, a6, a7, a8, a9, a10, a11, a12, a13, a14, a15, a16, a17, a18, a19, a20, a21, a22, a23, a24, a25⟩ := u
  obtain ⟨h0, h11, h2, h8, h9, hb⟩ := h
  have in8 : vp_in (0 : Int32) 8 := pk_in 0 8 (by omega)
  have in96 : vp_in (0 : Int32) 96 := pk_in 0 96 (by omega)
  have h2' : a2 (0 : Int32).toNatClampNeg = 0 := by rw [sb_cl0]; exact h2
  have h9' : a9 (0 : Int32).toNatClampNeg = qb_I pt := by rw [sb_cl0]; exact h9
  unfold wpX_at
  refine wa_isS (mk := mk) h0 (fun z => br_t rfl (HB (Or.inl (Bool.eq_false_iff.mpr (fun w => z ⟨w, rfl⟩))) _)) (fun e _ => br_f (by decide) ?_)
  refine br_c (fun z => HB (Or.inr (Or.inl z)) _) (fun z1 => br_c (fun z2 => ⟨in8, ?_⟩) (fun z => HB (Or.inr (Or.inr z)) _))
  cases pt
  · exact nm_r (e' := -1) (by rw [h9']; decide) ⟨1, br_t (by decide) (HN e z1 z2 (Or.inl rfl) _)⟩
  · obtain ⟨k10, k12, k13, k14, k15, k18, k19, kr⟩ := hb rfl
    have k12' : a12 (0 : Int32).toNatClampNeg = 1 := by rw [sb_cl0]; exact k12
    have k13' : a13 (0 : Int32).toNatClampNeg = 0 := by rw [sb_cl0]; exact k13
    have k14' : a14 (0 : Int32).toNatClampNeg = t := by rw [sb_cl0]; exact k14
    have k15' : a15 (0 : Int32).toNatClampNeg = t := by rw [sb_cl0]; exact k15
    refine nm_r (e' := 0) (by rw [h9']; decide) ⟨2, br_f (by decide) (br_t rfl (nm_r (e' := 0) (by decide) ⟨in96, br_c (fun z => ?_) (fun z3 => ?_)⟩))⟩
    · rw [k14'] at z
      exact nm_r (e' := -1) (by decide) (br_t (by decide) (HN e z1 z2 (Or.inr (Or.inl z)) _))
    · rw [k14'] at z3
      refine ⟨in96, in96, in8, br_f (by rw [k13', k12', h2']; decide) (br_f (by decide) ⟨in96, br_c (fun z => ?_) (fun z => ?_)⟩)⟩
      · rw [k15'] at z
        refine un_last h2 (hb rfl) z3 (Int32.not_le.mpr z) (fun u' => ?_)
        obtain ⟨d0, d1, d2, d3, d4, d5, d6, d7, d8, d9, d10, d11, b1, b2, b3, b4, b5, b6, b7, b8, b9, b10, b11, b12, b13, b14, b15, b16, b17, b18, b19, b20, b21, b22, b23, b24, b25⟩ := u'
        exact nm_r (e' := -1) (by decide) (br_t (by decide) (HV e z1 z2 rfl z3 (Int32.not_le.mpr z) _))
      · rw [k15'] at z
        exact HN e z1 z2 (Or.inr (Or.inr (Int32.not_lt.mp z))) _
end
section
/-! the law -/
/-- the series' flag and its labels -/
def la_m (mk : Bool) (lb : Nat) (x0 : Int32) : Prop := (mk = false ∧ lb = 0 ∧ (x0 < 0 ∨ 63 < x0)) ∨ (mk = true ∧ lb < 64 ∧ x0 = nI lb)
/-- the matcher's flags -/
def la_a (as mt mk : Bool) (lb : Nat) (x4 : Int32) : Prop := (as = false ∧ (x4 < 0 ∨ 728 < x4) ∧ mt = false) ∨ (as = true ∧ ∃ m : Nat, m ≤ 728 ∧ x4 = nI m ∧ mt = (mk && ft_M lb m))
theorem la_no {x4 : Int32} {m : Nat} (h : x4 < 0 ∨ 728 < x4) (hm : m ≤ 728) (e : x4 = nI m) : False := by
  subst e
  exact h.elim (fun y => nI_pos (by omega) y) (fun y => nI_nlt (a := 728) hm (by omega) y)
theorem la_316 {post : Int32 → St0 → Prop} {mc ms : Nat} {mk pt : Bool} {lb : Nat} {x2 x3 x5 z0 z1 : Int32} {kc ks : Nat} (Hp : post 1 ()) {c0 c1 c2 c3 c4 c5 c6 c7 c8 c9 c10 c11 : Int32} {a1 a2 a3 a4 a5 a6 a7 a8 a9 a10 a11 a12 a13 a14 a15 a16 a17 a18 a19 a20 a21 a22 a23 a24 a25 : Nat → Int32} (h : pc_ok mk pt lb x2 x3 (c0, c1, c2, c3, c4, c5, c6, c7, c8, c9, c10, c11, a1, a2, a3, a4, a5, a6, a7, a8, a9, a10, a11, a12, a13, a14, a15, a16, a17, a18, a19, a20, a21, a22, a23, a24, a25)) (hz : z1 = z0) :
    wL_lawOf_316 post mc ms x2 x3 x5 (qb_I mk) (qb_I pt) z0 z1 kc ks c0 c1 c2 c3 c4 c5 c6 c7 c8 c9 c10 c11 a1 a2 a3 a4 a5 a6 a7 a8 a9 a10 a11 a12 a13 a14 a15 a16 a17 a18 a19 a20 a21 a22 a23 a24 a25 := by
  have K0 : ∀ z : Int32, wL_lawOf_380 post mc ms z z kc ks := fun z => br_t rfl Hp
  have K1 : wL_lawOf_347 post mc ms (-10000) kc ks := K0 _
  have K2 : wL_lawOf_377 post mc ms (-10003) kc ks := K0 _
  unfold wL_lawOf_316
  refine br_t hz (un_at h (fun hh u' => ?_) (fun e g0 g9 hh u' => ?_) (fun e g0 g9 ep g1 g2 u' => ?_))
  all_goals obtain ⟨d0, d1, d2, d3, d4, d5, d6, d7, d8, d9, d10, d11, b1, b2, b3, b4, b5, b6, b7, b8, b9, b10, b11, b12, b13, b14, b15, b16, b17, b18, b19, b20, b21, b22, b23, b24, b25⟩ := u'
  · exact qb_br mk (fun _ => K1) (fun e => br_c (fun _ => K1) (fun y1 => br_c (fun y2 => absurd hh (fun w => w.elim (fun y => absurd (y.symm.trans e) (by decide)) (fun w => w.elim y1 (fun y => y y2)))) (fun _ => K1)))
  · exact qb_br mk (fun e' => absurd (e'.symm.trans e) (by decide)) (fun _ => br_f g0 (br_t g9 (qb_br pt (fun _ => K2) (fun ep => br_c (fun _ => K2) (fun y1 => br_c (fun _ => K2) (fun y2 => absurd hh (fun w => w.elim (fun y => absurd (y.symm.trans ep) (by decide)) (fun w => w.elim y1 y2))))))))
  · exact qb_br mk (fun e' => absurd (e'.symm.trans e) (by decide)) (fun _ => br_f g0 (br_t g9 (qb_br pt (fun e' => absurd (e'.symm.trans ep) (by decide)) (fun _ => br_f g1 (br_f g2 (K0 _))))))
theorem la_276 {post : Int32 → St0 → Prop} {mc ms : Nat} {mk pt as mt : Bool} {lb : Nat} {x2 x3 x4 x5 z0 z1 : Int32} {kc ks : Nat} (Hp : post 1 ()) (hlb : lb < 64) (hpm : pt = true → mk = true) (hu : pt = true → ¬ 999 < x2) (hq : la_a as mt mk lb x4) {c0 c1 c2 c3 c4 c5 c6 c7 c8 c9 c10 c11 : Int32} {a1 a2 a3 a4 a5 a6 a7 a8 a9 a10 a11 a12 a13 a14 a15 a16 a17 a18 a19 a20 a21 a22 a23 a24 a25 : Nat → Int32} (h : pc_ok mk pt lb x2 x3 (c0, c1, c2, c3, c4, c5, c6, c7, c8, c9, c10, c11, a1, a2, a3, a4, a5, a6, a7, a8, a9, a10, a11, a12, a13, a14, a15, a16, a17, a18, a19, a20, a21, a22, a23, a24, a25)) (hz : z1 = z0) :
    wL_lawOf_276 post mc ms x2 x3 x4 x5 (qb_I mk) (qb_I pt) (qb_I as) (qb_I (pt && (mt && !decide (x2 < x5)))) z0 z1 kc ks c0 c1 c2 c3 c4 c5 c6 c7 c8 c9 c10 c11 a1 a2 a3 a4 a5 a6 a7 a8 a9 a10 a11 a12 a13 a14 a15 a16 a17 a18 a19 a20 a21 a22 a23 a24 a25 := by
  unfold wL_lawOf_276
  refine br_t hz (ls_ok hlb h hpm hu (fun hh => ?_) (fun m hm e r u' hr k => ?_))
  · rcases hq with ⟨ea, _, _⟩ | ⟨_, m, hm, e, _⟩
    · subst ea
      exact br_t rfl (la_316 Hp h rfl)
    · exact (la_no hh hm e).elim
  · rcases hq with ⟨_, hh, _⟩ | ⟨ea, m', hm', e', em⟩
    · exact (la_no hh hm e).elim
    · have e2 : m' = m := (nI_eq (by omega) (by omega)).mp (e'.symm.trans e)
      subst e2 ea
      rw [← em] at hr
      obtain ⟨d0, d1, d2, d3, d4, d5, d6, d7, d8, d9, d10, d11, b1, b2, b3, b4, b5, b6, b7, b8, b9, b10, b11, b12, b13, b14, b15, b16, b17, b18, b19, b20, b21, b22, b23, b24, b25⟩ := u'
      refine br_f (by decide) (qb_br _ (fun y => la_316 Hp k ?_) (fun y => la_316 Hp k ?_))
      · rw [hr, y]
        rfl
      · rw [hr, y]
        rfl
theorem la_251 {post : Int32 → St0 → Prop} {mc ms : Nat} {mk pt as mt : Bool} {lb : Nat} {x2 x3 x4 x5 z0 z1 : Int32} {kc ks : Nat} (Hp : post 1 ()) (hlb : lb < 64) (hpm : pt = true → mk = true) (hu : pt = true → ¬ 999 < x2) (hq : la_a as mt mk lb x4) {c0 c1 c2 c3 c4 c5 c6 c7 c8 c9 c10 c11 : Int32} {a1 a2 a3 a4 a5 a6 a7 a8 a9 a10 a11 a12 a13 a14 a15 a16 a17 a18 a19 a20 a21 a22 a23 a24 a25 : Nat → Int32} (h : pc_ok mk pt lb x2 x3 (c0, c1, c2, c3, c4, c5, c6, c7, c8, c9, c10, c11, a1, a2, a3, a4, a5, a6, a7, a8, a9, a10, a11, a12, a13, a14, a15, a16, a17, a18, a19, a20, a21, a22, a23, a24, a25)) (hz : z1 = z0) :
    wL_lawOf_251 post mc ms x2 x3 x4 x5 (qb_I mk) (qb_I pt) (qb_I as) (qb_I (pt && (mt && !decide (x2 < x5)))) z0 z1 kc ks c0 c1 c2 c3 c4 c5 c6 c7 c8 c9 c10 c11 a1 a2 a3 a4 a5 a6 a7 a8 a9 a10 a11 a12 a13 a14 a15 a16 a17 a18 a19 a20 a21 a22 a23 a24 a25 := by
  unfold wL_lawOf_251
  refine br_t hz (sm_ok hlb h hpm (fun _ => Int32.lt_irrefl) (fun hh => ?_) (fun m hm e r u' hr k => ?_))
  · rcases hq with ⟨ea, hh', em⟩ | ⟨_, m, hm, e, _⟩
    · have et : (pt && (mt && !decide (x2 < x5))) = false := by rw [em]; cases pt <;> rfl
      have K := fun (z0 z1 : Int32) (hz : z1 = z0) => la_276 (mc := mc) (ms := ms) (x5 := x5) (kc := kc) (ks := ks) Hp hlb hpm hu (Or.inl ⟨ea, hh', em⟩) h hz
      rw [et] at K ⊢
      exact br_t rfl (K _ _ rfl)
    · exact (la_no hh hm e).elim
  · rcases id hq with ⟨_, hh, _⟩ | ⟨ea, m', hm', e', em⟩
    · exact (la_no hh hm e).elim
    · have e2 : m' = m := (nI_eq (by omega) (by omega)).mp (e'.symm.trans e)
      subst e2
      rw [← em] at hr
      obtain ⟨d0, d1, d2, d3, d4, d5, d6, d7, d8, d9, d10, d11, b1, b2, b3, b4, b5, b6, b7, b8, b9, b10, b11, b12, b13, b14, b15, b16, b17, b18, b19, b20, b21, b22, b23, b24, b25⟩ := u'
      refine qb_br _ (fun y => la_276 Hp hlb hpm hu hq k ?_) (fun y => la_276 Hp hlb hpm hu hq k ?_)
      · rw [hr, y]
        rfl
      · rw [hr, y]
        rfl
theorem la_218 {post : Int32 → St0 → Prop} {mc ms : Nat} {mk pt as mt : Bool} {lb : Nat} {x2 x3 x4 x5 z0 z1 : Int32} {kc ks : Nat} (Hp : post 1 ()) (hlb : lb < 64) (hpm : pt = true → mk = true) (hu : pt = true → ¬ 999 < x2) (hq : la_a as mt mk lb x4) {c0 c1 c2 c3 c4 c5 c6 c7 c8 c9 c10 c11 : Int32} {a1 a2 a3 a4 a5 a6 a7 a8 a9 a10 a11 a12 a13 a14 a15 a16 a17 a18 a19 a20 a21 a22 a23 a24 a25 : Nat → Int32} (h : pc_ok mk pt lb x2 x3 (c0, c1, c2, c3, c4, c5, c6, c7, c8, c9, c10, c11, a1, a2, a3, a4, a5, a6, a7, a8, a9, a10, a11, a12, a13, a14, a15, a16, a17, a18, a19, a20, a21, a22, a23, a24, a25)) (hz : z1 = z0) :
    wL_lawOf_218 post mc ms x2 x3 x4 x5 (qb_I mk) (qb_I pt) (qb_I as) (qb_I mt) (qb_I (pt && (mt && !decide (x2 < x5)))) z0 z1 kc ks c0 c1 c2 c3 c4 c5 c6 c7 c8 c9 c10 c11 a1 a2 a3 a4 a5 a6 a7 a8 a9 a10 a11 a12 a13 a14 a15 a16 a17 a18 a19 a20 a21 a22 a23 a24 a25 := by
  unfold wL_lawOf_218
  have K := fun (z0 z1 : Int32) (hz : z1 = z0) => la_251 (mc := mc) (ms := ms) (x5 := x5) (kc := kc) (ks := ks) Hp hlb hpm hu hq h hz
  refine br_t hz (mt_ok hlb h (fun hh => ?_) (fun m hm e => ?_))
  · rcases hq with ⟨ea, _, _⟩ | ⟨_, m, hm, e, _⟩
    · exact qb_br as (fun _ => K _ _ rfl) (fun y => absurd (y.symm.trans ea) (by decide))
    · exact (la_no hh hm e).elim
  · rcases hq with ⟨_, hh, _⟩ | ⟨ea, m', hm', e', em⟩
    · exact (la_no hh hm e).elim
    · have e2 : m' = m := (nI_eq (by omega) (by omega)).mp (e'.symm.trans e)
      subst e2
      refine qb_br as (fun y => absurd (y.symm.trans ea) (by decide)) (fun _ => qb_br mt (fun y => K _ _ ?_) (fun y => K _ _ ?_))
      · rw [← em, y]
        rfl
      · rw [← em, y]
        rfl
theorem la_193 {post : Int32 → St0 → Prop} {mc ms : Nat} {mk pt as mt : Bool} {lb : Nat} {x1 x2 x3 x4 x5 z0 z1 : Int32} {kc ks : Nat} (Hp : post 1 ()) (hlb : lb < 64) (hp : pt = true ↔ ap_c mk x1 x2 x3) (hq : la_a as mt mk lb x4) {c0 c1 c2 c3 c4 c5 c6 c7 c8 c9 c10 c11 : Int32} {a1 a2 a3 a4 a5 a6 a7 a8 a9 a10 a11 a12 a13 a14 a15 a16 a17 a18 a19 a20 a21 a22 a23 a24 a25 : Nat → Int32} (h : pc_fr mk lb (c0, c1, c2, c3, c4, c5, c6, c7, c8, c9, c10, c11, a1, a2, a3, a4, a5, a6, a7, a8, a9, a10, a11, a12, a13, a14, a15, a16, a17, a18, a19, a20, a21, a22, a23, a24, a25)) (hz : z1 = z0) :
    wL_lawOf_193 post mc ms x1 x2 x3 x4 x5 (qb_I mk) (qb_I pt) (qb_I as) (qb_I mt) (qb_I (pt && (mt && !decide (x2 < x5)))) z0 z1 kc ks c0 c1 c2 c3 c4 c5 c6 c7 c8 c9 c10 c11 a1 a2 a3 a4 a5 a6 a7 a8 a9 a10 a11 a12 a13 a14 a15 a16 a17 a18 a19 a20 a21 a22 a23 a24 a25 := by
  unfold wL_lawOf_193
  refine br_t hz (ap_ok h (fun hn t v k => ?_) (fun hc r u' hr k => ?_))
  · have ep : pt = false := Bool.eq_false_iff.mpr (fun y => hn (hp.mp y))
    subst ep
    have k' : pc_ok mk false lb x2 x3 (c0, c1, c2, c3, c4, c5, c6, c7, c8, c9, c10, c11, a1, a2, a3, a4, a5, a6, a7, a8, a9, a10, a11, a12, a13, a14, a15, a16, a17, a18, a19, a20, a21, a22, a23, a24, a25) := by
      obtain ⟨q0, q1, q2, q3, q4, _⟩ := k
      exact ⟨q0, q1, q2, q3, q4, fun y => absurd y (by decide)⟩
    exact br_t rfl (la_218 Hp hlb (fun y => absurd y (by decide)) (fun y => absurd y (by decide)) hq k' rfl)
  · have ep : pt = true := hp.mpr hc
    have ek : mk = true := hc.1
    subst ep ek
    obtain ⟨d0, d1, d2, d3, d4, d5, d6, d7, d8, d9, d10, d11, b1, b2, b3, b4, b5, b6, b7, b8, b9, b10, b11, b12, b13, b14, b15, b16, b17, b18, b19, b20, b21, b22, b23, b24, b25⟩ := u'
    exact br_f (by decide) (la_218 Hp hlb (fun _ => rfl) (fun _ => hc.2.2.2.1) hq k hr)
theorem la_init {post : St2 → Prop} (h : post (0, 0, 0, 0, 0, 0, 0, 0, 0, 0, 0, 2, (fun _ => 0), (fun _ => 0), (fun _ => 0), (fun _ => 0), (fun _ => 0), (fun _ => 0), (fun _ => 0), (fun _ => 0), (fun _ => 0), (fun _ => 0), (fun _ => 0), (fun _ => 0), (fun _ => 0), (fun _ => 0), (fun _ => 0), (fun _ => 0), (fun _ => 0), (fun _ => 0), (fun _ => 0), (fun _ => 0), (fun _ => 0), (fun _ => 0), (fun _ => 0), (fun _ => 0), (fun _ => 0))) : wpX_init post 25 1908 (0, 0, 0, 0, 0, 0, 0, 0, 0, 0, 0, 0) :=
  ⟨by decide, by decide, by decide, by decide, by decide, by decide, by decide, by decide, by decide, by decide, by decide, by decide, by decide, by decide, by decide, by decide, by decide, by decide, by decide, by decide, by decide, by decide, by decide, by decide, by decide, by decide, by decide, by decide, by decide, by decide, by decide, by decide, by decide, by decide, by decide, by decide, by decide, by decide, by decide, by decide, by decide, by decide, by decide, by decide, by decide, by decide, by decide, by decide, by decide, by decide, h⟩
theorem la_164 {post : Int32 → St0 → Prop} {mc ms : Nat} {mk pt as mt : Bool} {lb : Nat} {x0 x1 x2 x3 x4 x5 : Int32} {kc ks : Nat} (Hp : post 1 ()) (hmc : kc + 26 ≤ mc) (hms : ks + 1945 ≤ ms) (hk : la_m mk lb x0) (hp : pt = true ↔ ap_c mk x1 x2 x3) (hq : la_a as mt mk lb x4) :
    wL_lawOf_164 post mc ms x0 x1 x2 x3 x4 x5 (qb_I mk) (qb_I pt) (qb_I as) (qb_I mt) (qb_I (pt && (mt && !decide (x2 < x5)))) kc ks := by
  unfold wL_lawOf_164
  refine ⟨by omega, by omega, 25, 1908, by omega, by omega, la_init ?_⟩
  refine se_ok (fun hh u' k => ?_) (fun lb' hlb e u' k => ?_)
  · rcases hk with ⟨e1, e2, _⟩ | ⟨_, hlb, e⟩
    · subst e1 e2
      obtain ⟨d0, d1, d2, d3, d4, d5, d6, d7, d8, d9, d10, d11, b1, b2, b3, b4, b5, b6, b7, b8, b9, b10, b11, b12, b13, b14, b15, b16, b17, b18, b19, b20, b21, b22, b23, b24, b25⟩ := u'
      exact br_t rfl (la_193 Hp (by omega) hp hq k rfl)
    · subst e
      exact (hh.elim (fun y => nI_pos (by omega) y) (fun y => nI_nlt (a := 63) (by omega) (by omega) y)).elim
  · rcases hk with ⟨_, _, hh⟩ | ⟨e1, hlb2, e2⟩
    · subst e
      exact (hh.elim (fun y => nI_pos (by omega) y) (fun y => nI_nlt (a := 63) (by omega) (by omega) y)).elim
    · have e3 : lb' = lb := (nI_eq (by omega) (by omega)).mp (e.symm.trans e2)
      subst e3 e1
      obtain ⟨d0, d1, d2, d3, d4, d5, d6, d7, d8, d9, d10, d11, b1, b2, b3, b4, b5, b6, b7, b8, b9, b10, b11, b12, b13, b14, b15, b16, b17, b18, b19, b20, b21, b22, b23, b24, b25⟩ := u'
      exact br_f (by decide) (la_193 Hp hlb hp hq k rfl)
theorem la_141 {post : Int32 → St0 → Prop} {mc ms : Nat} {mk pt as mt : Bool} {lb : Nat} {x0 x1 x2 x3 x4 x5 : Int32} {kc ks : Nat} (Hp : post 1 ()) (hmc : kc + 26 ≤ mc) (hms : ks + 1945 ≤ ms) (hk : la_m mk lb x0) (hp : pt = true ↔ ap_c mk x1 x2 x3) (hq : la_a as mt mk lb x4) :
    wL_lawOf_141 post mc ms x0 x1 x2 x3 x4 x5 (qb_I mk) (qb_I pt) (qb_I as) (qb_I mt) kc ks := by
  have K : ∀ tk : Bool, tk = (pt && (mt && !decide (x2 < x5))) → wL_lawOf_164 post mc ms x0 x1 x2 x3 x4 x5 (qb_I mk) (qb_I pt) (qb_I as) (qb_I mt) (qb_I tk) kc ks := fun tk e => by
    rw [e]
    exact la_164 Hp hmc hms hk hp hq
  refine qb_br pt (fun e => K false (by rw [e]; rfl)) (fun e => qb_br mt (fun e2 => K false (by rw [e, e2]; rfl)) (fun e2 => br_c (fun z => K false ?_) (fun z => K true ?_)))
  · rw [e, e2, decide_eq_true z]
    rfl
  · rw [e, e2, decide_eq_false z]
    rfl
theorem wa_fits {post : Int32 → Prop} {p0 p1 : Int32} (d v : Nat) (e0 : p0 = nI d) (e1 : p1 = nI v) (hd : d < 9) (hv : v < 4) (h : post (qb_I (ft_f d v))) : wpL_fits post () p0 p1 := by
  subst e0 e1
  refine pk_le 4 d (fun z => pk_eq d 4 (fun z2 => ?_) (fun z2 => ?_)) (fun z => pk_eq v d (fun z2 => ?_) (fun z2 => ?_))
  · subst z2
    exact h
  · have e : nI d - 5 = nI (d - 5) := pk_sub (b := 5) (by omega)
    have g : ft_f d v = !(v == d - 5) := by
      unfold ft_f
      rw [if_neg (by omega), show (d == 4) = false from beq_false_of_ne z2, Bool.false_or]
    rw [g] at h
    rw [e]
    refine pk_eq v (d - 5) (fun y => ?_) (fun y => ?_)
    · rw [show (v == d - 5) = true from beq_iff_eq.mpr y] at h
      exact h
    · rw [show (v == d - 5) = false from beq_false_of_ne y] at h
      exact h
  · have g : ft_f d v = (v == d) := by
      unfold ft_f
      rw [if_pos (by omega)]
    rw [g, show (v == d) = true from beq_iff_eq.mpr z2] at h
    exact h
  · have g : ft_f d v = (v == d) := by
      unfold ft_f
      rw [if_pos (by omega)]
    rw [g, show (v == d) = false from beq_false_of_ne z2] at h
    exact h
theorem la_76 {post : Int32 → St0 → Prop} {mc ms : Nat} {mk pt as : Bool} {lb : Nat} {x0 x1 x2 x3 x4 x5 : Int32} {kc ks : Nat} (Hp : post 1 ()) (hmc : kc + 26 ≤ mc) (hms : ks + 1945 ≤ ms) (hk : la_m mk lb x0) (hp : pt = true ↔ ap_c mk x1 x2 x3) (ha : (as = false ∧ (x4 < 0 ∨ 728 < x4)) ∨ (as = true ∧ ∃ m : Nat, m ≤ 728 ∧ x4 = nI m)) :
    wL_lawOf_76 post mc ms x0 x1 x2 x3 x4 x5 (qb_I mk) (qb_I pt) (qb_I as) kc ks := by
  have K : ∀ mt : Bool, la_a as mt mk lb x4 → wL_lawOf_141 post mc ms x0 x1 x2 x3 x4 x5 (qb_I mk) (qb_I pt) (qb_I as) (qb_I mt) kc ks := fun mt hq => la_141 Hp hmc hms hk hp hq
  unfold wL_lawOf_76
  rcases ha with ⟨ea, hh⟩ | ⟨ea, m, hm, e4⟩
  · have K0 : wL_lawOf_141 post mc ms x0 x1 x2 x3 x4 x5 (qb_I mk) (qb_I pt) (qb_I as) (qb_I false) kc ks := K false (Or.inl ⟨ea, hh, rfl⟩)
    exact qb_br mk (fun _ => K0) (fun _ => qb_br as (fun _ => K0) (fun y => absurd (y.symm.trans ea) (by decide)))
  · have K' : ∀ mt : Bool, mt = (mk && ft_M lb m) → wL_lawOf_141 post mc ms x0 x1 x2 x3 x4 x5 (qb_I mk) (qb_I pt) (qb_I as) (qb_I mt) kc ks := fun mt e => K mt (Or.inr ⟨ea, m, hm, e4, e⟩)
    refine qb_br mk (fun y => K' false (by rw [y]; rfl)) (fun y => ?_)
    rcases hk with ⟨e1, _, _⟩ | ⟨_, hlb, e0⟩
    · exact absurd (e1.symm.trans y) (by decide)
    refine qb_br as (fun y2 => absurd (y2.symm.trans ea) (by decide)) (fun _ => ⟨by decide, by decide, ?_⟩)
    have d1 : x4 - x4 / 9 * 9 = nI (m % 9) := by rw [e4]; exact pk_rem (d := 9) (by omega) (by omega) (by omega)
    have v1 : x0 - x0 / 4 * 4 = nI (lb % 4) := by rw [e0]; exact pk_rem (d := 4) (by omega) (by omega) (by omega)
    have q4 : x4 / 9 = nI (m / 9) := by rw [e4]; exact pk_div (d := 9) (by omega) (by omega) (by omega)
    have q0 : x0 / 4 = nI (lb / 4) := by rw [e0]; exact pk_div (d := 4) (by omega) (by omega) (by omega)
    have d2 : x4 / 9 - x4 / 9 / 9 * 9 = nI (m / 9 % 9) := by rw [q4]; exact pk_rem (d := 9) (by omega) (by omega) (by omega)
    have v2 : x0 / 4 - x0 / 4 / 4 * 4 = nI (lb / 4 % 4) := by rw [q0]; exact pk_rem (d := 4) (by omega) (by omega) (by omega)
    have d3 : x4 / 81 = nI (m / 81) := by rw [e4]; exact pk_div (d := 81) (by omega) (by omega) (by omega)
    have v3 : x0 / 16 = nI (lb / 16) := by rw [e0]; exact pk_div (d := 16) (by omega) (by omega) (by omega)
    refine wa_fits (m % 9) (lb % 4) d1 v1 (by omega) (by omega) (qb_br _ (fun f1 => K' false ?_) (fun f1 => ⟨by decide, by decide, by decide, by decide, ?_⟩))
    · rw [y]
      unfold ft_M
      rw [f1]
      rfl
    refine wa_fits (m / 9 % 9) (lb / 4 % 4) d2 v2 (by omega) (by omega) (qb_br _ (fun f2 => K' false ?_) (fun f2 => ⟨by decide, by decide, ?_⟩))
    · rw [y]
      unfold ft_M
      rw [f1, f2]
      rfl
    refine wa_fits (m / 81) (lb / 16) d3 v3 (by omega) (by omega) (qb_br _ (fun f3 => K' false ?_) (fun f3 => K' true ?_))
    · rw [y]
      unfold ft_M
      rw [f1, f2, f3]
      rfl
    · rw [y]
      unfold ft_M
      rw [f1, f2, f3]
      rfl
theorem la_56 {post : Int32 → St0 → Prop} {mc ms : Nat} {mk pt : Bool} {lb : Nat} {x0 x1 x2 x3 x4 x5 : Int32} {kc ks : Nat} (Hp : post 1 ()) (hmc : kc + 26 ≤ mc) (hms : ks + 1945 ≤ ms) (hk : la_m mk lb x0) (hp : pt = true ↔ ap_c mk x1 x2 x3) :
    wL_lawOf_56 post mc ms x0 x1 x2 x3 x4 x5 (qb_I mk) (qb_I pt) kc ks := by
  have K0 : x4 < 0 ∨ 728 < x4 → wL_lawOf_75 post mc ms x0 x1 x2 x3 x4 x5 (qb_I mk) (qb_I pt) kc ks := fun hh => la_76 (as := false) Hp hmc hms hk hp (Or.inl ⟨rfl, hh⟩)
  unfold wL_lawOf_56
  refine br_c (fun z => K0 (Or.inl z)) (fun z1 => br_c (fun z => K0 (Or.inr z)) (fun z2 => ?_))
  obtain ⟨m, hm, e⟩ := nI_of2 (M := 728) (n := 728) (by decide) z1 (Int32.not_lt.mp z2)
  exact la_76 (as := true) Hp hmc hms hk hp (Or.inr ⟨rfl, m, hm, e⟩)
theorem la_15 {post : Int32 → St0 → Prop} {mc ms : Nat} {mk : Bool} {lb : Nat} {x0 x1 x2 x3 x4 x5 : Int32} {kc ks : Nat} (Hp : post 1 ()) (hmc : kc + 26 ≤ mc) (hms : ks + 1945 ≤ ms) (hk : la_m mk lb x0) :
    wL_lawOf_15 post mc ms x0 x1 x2 x3 x4 x5 (qb_I mk) kc ks := by
  have K0 : ¬ ap_c mk x1 x2 x3 → wL_lawOf_55 post mc ms x0 x1 x2 x3 x4 x5 (qb_I mk) kc ks := fun hn => la_56 (pt := false) Hp hmc hms hk ⟨fun y => absurd y (by decide), fun y => absurd y hn⟩
  unfold wL_lawOf_15
  refine qb_br mk (fun y => K0 (fun w => absurd (y.symm.trans w.1) (by decide))) (fun y => ?_)
  refine br_c (fun z1 => br_c (fun z => K0 (fun w => w.2.2.1 z)) (fun z2 => br_c (fun z => K0 (fun w => w.2.2.2.1 z)) (fun z3 => br_c (fun z => K0 (fun w => w.2.2.2.2.1 z)) (fun z4 => br_c (fun z => K0 (fun w => absurd w.2.2.2.2.2 (Int32.not_le.mpr z))) (fun z5 => ?_))))) (fun z => K0 (fun w => z w.2.1))
  exact la_56 (pt := true) Hp hmc hms hk ⟨fun _ => ⟨y, z1, z2, z3, z4, Int32.not_lt.mp z5⟩, fun _ => rfl⟩
theorem la_of {post : Int32 → St0 → Prop} {p0 p1 p2 p3 p4 p5 : Int32} (Hp : post 1 ()) : wpL_lawOf post 754 12048 () p0 p1 p2 p3 p4 p5 := by
  have K0 : p0 < 0 ∨ 63 < p0 → wL_lawOf_14 post 754 12048 p0 p1 p2 p3 p4 p5 0 0 := fun hh => la_15 (mk := false) (lb := 0) Hp (by omega) (by omega) (Or.inl ⟨rfl, rfl, hh⟩)
  unfold wpL_lawOf
  refine br_c (fun z => K0 (Or.inl z)) (fun z1 => br_c (fun z => K0 (Or.inr z)) (fun z2 => ?_))
  obtain ⟨lb, hlb, e⟩ := nI_of2 (M := 63) (n := 63) (by decide) z1 (Int32.not_lt.mp z2)
  exact la_15 (mk := true) (lb := lb) Hp (by omega) (by omega) (Or.inr ⟨rfl, by omega, e⟩)
theorem la_cell {post : Int32 → Prop} {L : Nat} {xs : Nat → Int32} {p1 : Int32} (k : Nat) (hk : k < 2 ^ 31) (hL : L < 2 ^ 31) (e : p1 = nI k) (H : ∀ r, post r) : wpL_cellAt post L xs () p1 := by
  subst e
  exact pk_le L k (fun _ => H _) (fun z => ⟨vp_in_nI z hL, H _⟩)
end
section
theorem i_vc (xs : Nat → Int32) (L : Nat) (hL : L ≤ 6) : wpL_law (fun r => r = 1) L xs := by
  have hL' : L < 2 ^ 31 := by omega
  unfold wpL_law
  refine la_cell 0 (by omega) hL' rfl (fun r1 => ?_)
  refine la_cell 1 (by omega) hL' rfl (fun r2 => ?_)
  refine la_cell 2 (by omega) hL' rfl (fun r3 => ?_)
  refine la_cell 3 (by omega) hL' rfl (fun r4 => ?_)
  refine la_cell 4 (by omega) hL' rfl (fun r5 => ?_)
  refine la_cell 5 (by omega) hL' rfl (fun r6 => ?_)
  exact ⟨754, 12048, by omega, by omega, la_of rfl⟩
end
