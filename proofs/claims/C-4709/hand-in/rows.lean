section
theorem pk_us {f : Nat → Int32} {k : Nat} {x : Int32} : upd f k x k = x := if_pos rfl
theorem pk_un {f : Nat → Int32} {k j : Nat} {x : Int32} (h : j ≠ k) : upd f k x j = f j := if_neg h
theorem pk_uLs {f : Nat → Int64} {k : Nat} {x : Int64} : vp_updL f k x k = x := if_pos rfl
theorem pk_uLn {f : Nat → Int64} {k j : Nat} {x : Int64} (h : j ≠ k) : vp_updL f k x j = f j := if_neg h
theorem pk_sub {a b : Nat} (h : b ≤ a) : nI a - nI b = nI (a - b) := by
  obtain ⟨c, rfl⟩ : ∃ c, a = c + b := ⟨a - b, by omega⟩
  rw [← nI_add, Int32.add_sub_cancel, Nat.add_sub_cancel]
theorem pk_m1 (n : Nat) : nI (n + 1) + (-1) = nI n := by
  rw [← nI_1, Int32.add_assoc, show (1 : Int32) + (-1) = 0 from rfl, Int32.add_zero]
theorem pk_mul (a b : Nat) : nI a * nI b = nI (a * b) := (Int32.ofNat_mul a b).symm
theorem pk_div {a d : Nat} (ha : a < 2 ^ 31) (h0 : 0 < d) (hd : d < 2 ^ 31) : nI a / nI d = nI (a / d) := by
  apply Int32.toInt_inj.mp
  rw [lg_idiv_nonneg (by rw [nI_toInt ha]; omega) (by rw [nI_toInt hd]; omega), nI_toInt ha, nI_toInt hd, nI_toInt (Nat.lt_of_le_of_lt (Nat.div_le_self a d) ha)]
  first | rfl | exact (Int.natCast_ediv _ _).symm
theorem pk_rem {a d : Nat} (ha : a < 2 ^ 31) (h0 : 0 < d) (hd : d < 2 ^ 31) : nI a - nI a / nI d * nI d = nI (a % d) := by
  rw [pk_div ha h0 hd, pk_mul, pk_sub (Nat.div_mul_le_self a d)]
  exact congrArg nI (by have := Nat.div_add_mod' a d; omega)
theorem pk_sub_toInt {a b : Nat} (ha : a < 2 ^ 30) (hb : b < 2 ^ 30) : (nI a - nI b).toInt = (a : Int) - b := by
  rw [Int32.toInt_sub, nI_toInt (by omega), nI_toInt (by omega)]
  exact Int.bmod_eq_of_le (by omega) (by omega)
theorem pk_sneg {a b : Nat} (hb : b < 2 ^ 30) (h : a < b) : nI a - nI b < 0 := by
  rw [Int32.lt_iff_toInt_lt, pk_sub_toInt (by omega) hb, show (0 : Int32).toInt = 0 from by decide]
  omega
theorem pk_ix (x : Int32) {n : Nat} (hn : n < 2 ^ 31) : x < 0 ∨ nI n ≤ x ∨ ∃ j : Nat, j < n ∧ x = nI j := by
  by_cases h : x < 0
  · exact Or.inl h
  · obtain ⟨j, hj, rfl⟩ := nI_of h
    by_cases h2 : j < n
    · exact Or.inr (Or.inr ⟨j, h2, rfl⟩)
    · exact Or.inr (Or.inl (nI_le (by omega) hj))
theorem pk_le {x y : Int32} {A B : Prop} (a b : Nat) (f : a ≤ b → A) (g : b < a → B) (hx : x = nI a := by rfl) (hy : y = nI b := by rfl) (ha : a < 2 ^ 31 := by omega) (hb : b < 2 ^ 31 := by omega) : (x ≤ y → A) ∧ (¬ x ≤ y → B) := by
  subst hx hy
  rw [nI_leI ha hb]
  exact ⟨f, fun z => g (by omega)⟩
theorem pk_lt {x y : Int32} {A B : Prop} (a b : Nat) (f : a < b → A) (g : b ≤ a → B) (hx : x = nI a := by rfl) (hy : y = nI b := by rfl) (ha : a < 2 ^ 31 := by omega) (hb : b < 2 ^ 31 := by omega) : (x < y → A) ∧ (¬ x < y → B) := by
  subst hx hy
  rw [nI_ltI ha hb]
  exact ⟨f, fun z => g (by omega)⟩
theorem pk_eq {x y : Int32} {A B : Prop} (a b : Nat) (f : a = b → A) (g : a ≠ b → B) (hx : x = nI a := by rfl) (hy : y = nI b := by rfl) (ha : a < 2 ^ 31 := by omega) (hb : b < 2 ^ 31 := by omega) : (x = y → A) ∧ (¬ x = y → B) := by
  subst hx hy
  rw [nI_eq ha hb]
  exact ⟨f, g⟩
theorem pk_in {x : Int32} (n N : Nat) (h : n < N) (hx : x = nI n := by rfl) (hN : N < 2 ^ 31 := by omega) : vp_in x N := by
  subst hx
  exact vp_in_nI h hN
theorem pk_cl {x : Int32} (n : Nat) (hx : x = nI n := by rfl) (h : n < 2 ^ 31 := by omega) : x.toNatClampNeg = n := by
  subst hx
  exact nI_clamp h
/-! ===== Int32 by its bits: bt x i ===== -/
def bt (x : Int32) (i : Nat) : Bool := x.toBitVec.getLsbD i
theorem b_ext {x y : Int32} (h : ∀ i, i < 32 → bt x i = bt y i) : x = y := Int32.toBitVec_inj.mp (BitVec.eq_of_getLsbD_eq (fun i hi => h i hi))
theorem b_or (x y : Int32) (i : Nat) : bt (x ||| y) i = (bt x i || bt y i) := by unfold bt; rw [Int32.toBitVec_or, BitVec.getLsbD_or]
theorem b_and (x y : Int32) (i : Nat) : bt (x &&& y) i = (bt x i && bt y i) := by unfold bt; rw [Int32.toBitVec_and, BitVec.getLsbD_and]
theorem b_xor (x y : Int32) (i : Nat) : bt (x ^^^ y) i = (bt x i ^^ bt y i) := by unfold bt; rw [Int32.toBitVec_xor, BitVec.getLsbD_xor]
theorem b_big {x : Int32} {i : Nat} (h : 32 ≤ i) : bt x i = false := BitVec.getLsbD_of_ge _ _ h
theorem b_255 (i : Nat) : bt 255 i = decide (i < 8) := by
  rcases Nat.lt_or_ge i 32 with h | h
  · exact (by decide +kernel : ∀ i, i < 32 → bt 255 i = decide (i < 8)) i h
  · rw [b_big h, decide_eq_false (by omega)]
theorem b_65535 (i : Nat) : bt 65535 i = decide (i < 16) := by
  rcases Nat.lt_or_ge i 32 with h | h
  · exact (by decide +kernel : ∀ i, i < 32 → bt 65535 i = decide (i < 16)) i h
  · rw [b_big h, decide_eq_false (by omega)]
theorem b_m1 : ∀ i, i < 32 → bt (-1) i = true := by decide +kernel
theorem b_0 (i : Nat) : bt 0 i = false := BitVec.getLsbD_zero
theorem s_l : ∀ n, n < 32 → ((nI n &&& 31).toBitVec.smod 32).toNat = n := by decide +kernel
theorem s_u : ∀ n, n < 32 → (((nI n).toUInt32 &&& Int32.toUInt32 31).toBitVec % 32).toNat = n := by decide +kernel
theorem b_shl (n : Nat) (hn : n < 32) (x : Int32) {i : Nat} (hi : i < 32) : bt (x <<< (nI n &&& 31)) i = (decide (n ≤ i) && bt x (i - n)) := by
  unfold bt
  rw [Int32.toBitVec_shiftLeft]
  show (x.toBitVec <<< ((nI n &&& 31).toBitVec.smod 32).toNat).getLsbD i = _
  rw [s_l n hn, BitVec.getLsbD_shiftLeft]
  rcases Nat.lt_or_ge i n with h | h
  · simp [h, Nat.not_le.mpr h]
  · simp [hi, h, Nat.not_lt.mpr h]
theorem b_ushr (n : Nat) (hn : n < 32) (x : Int32) (i : Nat) : bt ((x.toUInt32 >>> ((nI n).toUInt32 &&& Int32.toUInt32 31)).toInt32) i = bt x (n + i) := by
  show (x.toUInt32 >>> ((nI n).toUInt32 &&& Int32.toUInt32 31)).toBitVec.getLsbD i = x.toUInt32.toBitVec.getLsbD (n + i)
  rw [UInt32.toBitVec_shiftRight]
  show (x.toUInt32.toBitVec >>> (((nI n).toUInt32 &&& Int32.toUInt32 31).toBitVec % 32).toNat).getLsbD i = _
  rw [s_u n hn, BitVec.getLsbD_ushiftRight]
theorem b_sshr (n : Nat) (hn : n < 32) (x : Int32) {i : Nat} (hi : i < 32) : bt (x >>> (nI n &&& 31)) i = if n + i < 32 then bt x (n + i) else bt x 31 := by
  unfold bt
  rw [Int32.toBitVec_shiftRight]
  show (x.toBitVec.sshiftRight ((nI n &&& 31).toBitVec.smod 32).toNat).getLsbD i = _
  rw [s_l n hn, BitVec.getLsbD_sshiftRight, BitVec.msb_eq_getLsbD_last]
  simp [hi]
theorem b_shl8 (x : Int32) {i : Nat} (hi : i < 32) : bt (x <<< ((8 : Int32) &&& 31)) i = (decide (8 ≤ i) && bt x (i - 8)) := b_shl 8 (by omega) x hi
theorem b_shl16 (x : Int32) {i : Nat} (hi : i < 32) : bt (x <<< ((16 : Int32) &&& 31)) i = (decide (16 ≤ i) && bt x (i - 16)) := b_shl 16 (by omega) x hi
theorem b_shl24 (x : Int32) {i : Nat} (hi : i < 32) : bt (x <<< ((24 : Int32) &&& 31)) i = (decide (24 ≤ i) && bt x (i - 24)) := b_shl 24 (by omega) x hi
theorem b_sshr8 (x : Int32) {i : Nat} (hi : i < 32) : bt (x >>> ((8 : Int32) &&& 31)) i = if 8 + i < 32 then bt x (8 + i) else bt x 31 := b_sshr 8 (by omega) x hi
end
section
/-! the plain law: heights over cells say who knows which events. No program in sight -/
noncomputable def ic_b (P : Prop) : Int32 := @ite Int32 P (Classical.propDecidable P) 1 0
theorem ic_bt {P : Prop} (h : P) : ic_b P = 1 := by unfold ic_b; rw [if_pos h]
theorem ic_bf {P : Prop} (h : ¬ P) : ic_b P = 0 := by unfold ic_b; rw [if_neg h]
theorem ic_be {P Q : Prop} (h : P ↔ Q) : ic_b P = ic_b Q := congrArg ic_b (propext h)
/-- a branch on a truth value -/
theorem ic_br {P A B : Prop} (a : ¬ P → A) (b : P → B) : (ic_b P = 0 → A) ∧ (¬ ic_b P = 0 → B) := by
  rcases Classical.em P with h | h
  · rw [ic_bt h]; exact ⟨fun z => absurd z (by decide), fun _ => b h⟩
  · rw [ic_bf h]; exact ⟨fun _ => a h, fun z => absurd rfl z⟩
theorem ic_bn (P : Prop) : narrow .boolean (.int (ic_b P)) = .int (ic_b P) := by
  rcases Classical.em P with h | h
  · rw [ic_bt h]; rfl
  · rw [ic_bf h]; rfl
/-- the events so far, n of them: S e i: event e rose cell i; h e: to this height -/
def kg_G (n : Nat) (S : Nat → Nat → Prop) (h : Nat → Nat) : Prop :=
  (∀ e, e < n → (∃ i, i < 32 ∧ S e i) ∧ 1 ≤ h e ∧ h e ≤ n) ∧
  (∀ e f i, e < f → f < n → i < 32 → S e i → S f i → h e < h f)
/-- a holder that knows the events K has the heights H, and K is closed by the cells -/
def kg_I (n : Nat) (S : Nat → Nat → Prop) (h : Nat → Nat) (K : Nat → Prop) (H : Nat → Nat) : Prop :=
  (∀ e, K e → e < n) ∧
  (∀ e i, i < 32 → K e → S e i → h e ≤ H i) ∧
  (∀ i, i < 32 → H i = 0 ∨ ∃ e, K e ∧ S e i ∧ h e = H i) ∧
  (∀ f e i, i < 32 → e < f → K f → S e i → S f i → K e)
/-- THE LAW: heights below heights means events within events -/
theorem kg_le {n : Nat} {S : Nat → Nat → Prop} {h : Nat → Nat} {K K' : Nat → Prop} {H H' : Nat → Nat} (G : kg_G n S h) (A : kg_I n S h K H) (B : kg_I n S h K' H') :
    (∀ i, i < 32 → H i ≤ H' i) ↔ (∀ e, K e → K' e) := by
  obtain ⟨g1, g2⟩ := G
  obtain ⟨a1, a2, a3, a4⟩ := A
  obtain ⟨b1, b2, b3, b4⟩ := B
  constructor
  · intro hl e he
    have hn := a1 e he
    obtain ⟨⟨i, hi, hs⟩, h1, _⟩ := g1 e hn
    have p := a2 e i hi he hs
    have q := hl i hi
    rcases b3 i hi with z | ⟨f, kf, sf, ef⟩
    · omega
    · rcases Nat.lt_trichotomy e f with l | l | l
      · exact b4 f e i hi l kf hs sf
      · rw [l]; exact kf
      · have := g2 f e i l hn hi sf hs
        omega
  · intro hk i hi
    rcases a3 i hi with z | ⟨e, ke, se, ee⟩
    · omega
    · have := b2 e i hi (hk e ke) se
      omega
theorem kg_bd {n : Nat} {S : Nat → Nat → Prop} {h : Nat → Nat} {K : Nat → Prop} {H : Nat → Nat} (G : kg_G n S h) (A : kg_I n S h K H) {i : Nat} (hi : i < 32) : H i ≤ n := by
  rcases A.2.2.1 i hi with z | ⟨e, ke, se, ee⟩
  · omega
  · have := (G.1 e (A.1 e ke)).2.2
    omega
theorem kg_un {n : Nat} {S : Nat → Nat → Prop} {h : Nat → Nat} {K K' : Nat → Prop} {H H' : Nat → Nat} (A : kg_I n S h K H) (B : kg_I n S h K' H') :
    kg_I n S h (fun e => K e ∨ K' e) (fun i => max (H i) (H' i)) := by
  obtain ⟨a1, a2, a3, a4⟩ := A
  obtain ⟨b1, b2, b3, b4⟩ := B
  refine ⟨fun e z => z.elim (a1 e) (b1 e), fun e i hi z s => ?_, fun i hi => ?_, fun f e i hi l z s s' => z.elim (fun z => Or.inl (a4 f e i hi l z s s')) (fun z => Or.inr (b4 f e i hi l z s s'))⟩
  · rcases z with z | z
    · exact Nat.le_trans (a2 e i hi z s) (Nat.le_max_left _ _)
    · exact Nat.le_trans (b2 e i hi z s) (Nat.le_max_right _ _)
  · dsimp only
    rcases Nat.le_total (H i) (H' i) with l | l
    · rw [Nat.max_eq_right l]
      rcases b3 i hi with z | ⟨e, x, y, w⟩
      · exact Or.inl z
      · exact Or.inr ⟨e, Or.inr x, y, w⟩
    · rw [Nat.max_eq_left l]
      rcases a3 i hi with z | ⟨e, x, y, w⟩
      · exact Or.inl z
      · exact Or.inr ⟨e, Or.inl x, y, w⟩
theorem kg_eq {n : Nat} {S : Nat → Nat → Prop} {h : Nat → Nat} {K K' : Nat → Prop} {H H' : Nat → Nat} (A : kg_I n S h K H) (hK : ∀ e, K e ↔ K' e) (hH : ∀ i, H i = H' i) : kg_I n S h K' H' := by
  have e1 : K = K' := funext fun e => propext (hK e)
  have e2 : H = H' := funext hH
  rw [← e1, ← e2]; exact A
/-- one event more: over the cells O, to the height t + 1 -/
def kg_S (n : Nat) (S : Nat → Nat → Prop) (O : Nat → Bool) : Nat → Nat → Prop := fun e i => if e = n then O i = true else S e i
def kg_h (n : Nat) (h : Nat → Nat) (t : Nat) : Nat → Nat := fun e => if e = n then t + 1 else h e
theorem kg_Sn {n e i : Nat} {S : Nat → Nat → Prop} {O : Nat → Bool} (z : e < n) : kg_S n S O e i ↔ S e i := by
  unfold kg_S; rw [if_neg (by omega)]
theorem kg_Se {n i : Nat} {S : Nat → Nat → Prop} {O : Nat → Bool} : kg_S n S O n i ↔ O i = true := by
  unfold kg_S; rw [if_pos rfl]
theorem kg_hn {n e t : Nat} {h : Nat → Nat} (z : e < n) : kg_h n h t e = h e := by
  unfold kg_h; rw [if_neg (by omega)]
theorem kg_he {n t : Nat} {h : Nat → Nat} : kg_h n h t n = t + 1 := by
  unfold kg_h; rw [if_pos rfl]
theorem kg_evG {n t : Nat} {S : Nat → Nat → Prop} {h : Nat → Nat} {O : Nat → Bool} (G : kg_G n S h) (hO : ∃ i, i < 32 ∧ O i = true) (ht : t ≤ n)
    (hh : ∀ e i, e < n → i < 32 → S e i → O i = true → h e ≤ t) : kg_G (n + 1) (kg_S n S O) (kg_h n h t) := by
  obtain ⟨g1, g2⟩ := G
  refine ⟨fun e he => ?_, fun e f i hl hf hi s s' => ?_⟩
  · rcases Nat.lt_or_eq_of_le (Nat.le_of_lt_succ he) with l | l
    · obtain ⟨⟨i, hi, z⟩, p, q⟩ := g1 e l
      rw [kg_hn l]
      exact ⟨⟨i, hi, (kg_Sn l).mpr z⟩, p, by omega⟩
    · obtain ⟨i, hi, z⟩ := hO
      rw [l, kg_he]
      exact ⟨⟨i, hi, kg_Se.mpr z⟩, by omega, by omega⟩
  · have l : e < n := by omega
    rw [kg_hn l]
    have s1 := (kg_Sn l).mp s
    rcases Nat.lt_or_eq_of_le (Nat.le_of_lt_succ hf) with m | m
    · rw [kg_hn m]
      exact g2 e f i hl m hi s1 ((kg_Sn m).mp s')
    · rw [m] at s' ⊢
      rw [kg_he]
      have := hh e i l hi s1 (kg_Se.mp s')
      omega
theorem kg_evO {n t : Nat} {S : Nat → Nat → Prop} {h : Nat → Nat} {O : Nat → Bool} {K : Nat → Prop} {H : Nat → Nat} (A : kg_I n S h K H) :
    kg_I (n + 1) (kg_S n S O) (kg_h n h t) K H := by
  obtain ⟨a1, a2, a3, a4⟩ := A
  refine ⟨fun e z => Nat.lt_succ_of_lt (a1 e z), fun e i hi z s => ?_, fun i hi => ?_, fun f e i hi l z s s' => ?_⟩
  · rw [kg_hn (a1 e z)]
    exact a2 e i hi z ((kg_Sn (a1 e z)).mp s)
  · rcases a3 i hi with z | ⟨e, x, y, w⟩
    · exact Or.inl z
    · refine Or.inr ⟨e, x, (kg_Sn (a1 e x)).mpr y, ?_⟩
      rw [kg_hn (a1 e x)]; exact w
  · have m := a1 f z
    exact a4 f e i hi l z ((kg_Sn (by omega)).mp s) ((kg_Sn m).mp s')
theorem kg_evS {n t : Nat} {S : Nat → Nat → Prop} {h : Nat → Nat} {O : Nat → Bool} {K : Nat → Prop} {H : Nat → Nat} (A : kg_I n S h K H)
    (hw : ∀ e i, e < n → i < 32 → O i = true → S e i → K e) (ht : ∀ i, i < 32 → O i = true → H i ≤ t) :
    kg_I (n + 1) (kg_S n S O) (kg_h n h t) (fun e => K e ∨ e = n) (fun i => if O i = true then t + 1 else H i) := by
  obtain ⟨a1, a2, a3, a4⟩ := A
  refine ⟨fun e z => ?_, fun e i hi z s => ?_, fun i hi => ?_, fun f e i hi l z s s' => ?_⟩
  · rcases z with z | z
    · exact Nat.lt_succ_of_lt (a1 e z)
    · omega
  · dsimp only
    rcases z with z | z
    · have m := a1 e z
      rw [kg_hn m]
      have p := a2 e i hi z ((kg_Sn m).mp s)
      by_cases o : O i = true
      · rw [if_pos o]
        have := ht i hi o
        omega
      · rw [if_neg o]; exact p
    · subst z
      rw [kg_he, if_pos (kg_Se.mp s)]
      exact Nat.le_refl _
  · dsimp only
    by_cases o : O i = true
    · rw [if_pos o]
      exact Or.inr ⟨n, Or.inr rfl, kg_Se.mpr o, kg_he⟩
    · rw [if_neg o]
      rcases a3 i hi with z | ⟨e, x, y, w⟩
      · exact Or.inl z
      · refine Or.inr ⟨e, Or.inl x, (kg_Sn (a1 e x)).mpr y, ?_⟩
        rw [kg_hn (a1 e x)]; exact w
  · rcases z with z | z
    · have m := a1 f z
      exact Or.inl (a4 f e i hi l z ((kg_Sn (by omega)).mp s) ((kg_Sn m).mp s'))
    · subst z
      exact Or.inl (hw e i l hi (kg_Se.mp s') ((kg_Sn l).mp s))
end
section
/-! bits of ints and longs, counts of bits -/
theorem ib_one : ∀ i, i < 32 → bt 1 i = decide (i = 0) := by decide +kernel
theorem ib_1 (y : Int32) : y &&& 1 = nI (bt y 0).toNat := by
  apply b_ext
  intro i hi
  rw [b_and, ib_one i hi]
  cases hb : bt y 0
  · show _ = bt 0 i
    rw [b_0]
    by_cases z : i = 0
    · rw [z, hb]; rfl
    · rw [decide_eq_false z, Bool.and_false]
  · show _ = bt 1 i
    rw [ib_one i hi]
    by_cases z : i = 0
    · rw [z, hb]; rfl
    · rw [decide_eq_false z, Bool.and_false]
theorem ib_s (s : Int32) {x : Nat} (hx : x < 32) : (s >>> (nI x &&& 31)) &&& 1 = nI (bt s x).toNat := by
  rw [ib_1, b_sshr x hx s (by omega), if_pos (by omega)]; rfl
theorem ib_u (s : Int32) {x : Nat} (hx : x < 32) : ((s.toUInt32 >>> ((nI x).toUInt32 &&& Int32.toUInt32 31)).toInt32) &&& 1 = nI (bt s x).toNat := by
  rw [ib_1, b_ushr x hx s 0]; rfl
theorem ib_z (b : Bool) : nI b.toNat = 0 ↔ ¬ b = true := by cases b <;> decide
theorem ib_o (b : Bool) : nI b.toNat = 1 ↔ b = true := by cases b <;> decide
theorem ib_bit {n i : Nat} (hn : n < 32) (hi : i < 32) : bt ((1 : Int32) <<< (nI n &&& 31)) i = decide (i = n) := by
  rw [b_shl n hn 1 hi]
  by_cases z : i = n
  · rw [z, Nat.sub_self, decide_eq_true (Nat.le_refl n), decide_eq_true rfl]; decide
  · rw [decide_eq_false z]
    by_cases l : n ≤ i
    · rw [ib_one (i - n) (by omega), decide_eq_false (show ¬ i - n = 0 by omega), Bool.and_false]
    · rw [decide_eq_false l, Bool.false_and]
/-- set one bit, clear one bit -/
theorem ib_set (s : Int32) {n i : Nat} (hn : n < 32) (hi : i < 32) : bt (s ||| ((1 : Int32) <<< (nI n &&& 31))) i = (bt s i || decide (i = n)) := by
  rw [b_or, ib_bit hn hi]
theorem ib_clr (s : Int32) {n i : Nat} (hn : n < 32) (hi : i < 32) : bt (s &&& (((1 : Int32) <<< (nI n &&& 31)) ^^^ (-1))) i = (bt s i && !decide (i = n)) := by
  rw [b_and, b_xor, ib_bit hn hi, b_m1 i hi, Bool.xor_true]
theorem ib_or0 (s : Int32) : s ||| 0 = s := b_ext fun i hi => by rw [b_or, b_0, Bool.or_false]
/-- how many bits are set below k -/
def ip_c (s : Int32) : Nat → Nat
  | 0 => 0
  | k + 1 => ip_c s k + (bt s k).toNat
theorem ip_le (s : Int32) : ∀ k, ip_c s k ≤ k
  | 0 => Nat.le_refl 0
  | k + 1 => by
    have := ip_le s k
    have : (bt s k).toNat ≤ 1 := by cases bt s k <;> decide
    show ip_c s k + (bt s k).toNat ≤ k + 1
    omega
theorem ip_t {s : Int32} {k : Nat} (h : bt s k = true) : ip_c s (k + 1) = ip_c s k + 1 := by
  show ip_c s k + (bt s k).toNat = _
  rw [h]; rfl
theorem ip_f {s : Int32} {k : Nat} (h : ¬ bt s k = true) : ip_c s (k + 1) = ip_c s k := by
  show ip_c s k + (bt s k).toNat = _
  rw [Bool.not_eq_true] at h
  rw [h]; rfl
theorem ip_up (s : Int32) : ∀ d k, ip_c s k ≤ ip_c s (k + d)
  | 0, k => Nat.le_refl _
  | d + 1, k => by
    have := ip_up s d k
    show _ ≤ ip_c s (k + d) + (bt s (k + d)).toNat
    omega
theorem ip_pos {s : Int32} {i : Nat} (hi : i < 32) (h : bt s i = true) : 1 ≤ ip_c s 32 := by
  have a := ip_up s (32 - (i + 1)) (i + 1)
  rw [show i + 1 + (32 - (i + 1)) = 32 by omega] at a
  have b := ip_t h
  omega
/-- the bit that has k bits below it -/
theorem ip_nth (s : Int32) (k : Nat) : ∀ m, k < ip_c s m → ∃ i, i < m ∧ bt s i = true ∧ ip_c s i = k
  | 0, h => by
    have e : ip_c s 0 = 0 := rfl
    omega
  | m + 1, h => by
    by_cases z : k < ip_c s m
    · obtain ⟨i, hi, p⟩ := ip_nth s k m z
      exact ⟨i, by omega, p⟩
    · by_cases b : bt s m = true
      · have e := ip_t b
        exact ⟨m, by omega, b, by omega⟩
      · rw [ip_f b] at h
        omega
/-- the bits of s with q bits of s or more below them, up to i: what a split gives -/
def ip_g (s : Int32) (q : Nat) : Nat → Int32
  | 0 => 0
  | i + 1 => if bt s i = true ∧ q ≤ ip_c s i then ip_g s q i ||| ((1 : Int32) <<< (nI i &&& 31)) else ip_g s q i
theorem ip_g_bt (s : Int32) (q : Nat) {j : Nat} (hj : j < 32) : ∀ i, i ≤ 32 → (bt (ip_g s q i) j = true ↔ j < i ∧ bt s j = true ∧ q ≤ ip_c s j)
  | 0, _ => by
    show bt 0 j = true ↔ _
    rw [b_0]
    constructor
    · intro z; exact absurd z (by decide)
    · intro z; exact absurd z.1 (by omega)
  | i + 1, h => by
    have ih := ip_g_bt s q hj i (by omega)
    unfold ip_g
    by_cases c : bt s i = true ∧ q ≤ ip_c s i
    · rw [if_pos c, ib_set _ (by omega) hj, Bool.or_eq_true, ih, decide_eq_true_eq]
      constructor
      · intro z
        rcases z with z | z
        · exact ⟨by omega, z.2⟩
        · subst z; exact ⟨by omega, c⟩
      · intro z
        by_cases e : j = i
        · exact Or.inr e
        · exact Or.inl ⟨by omega, z.2⟩
    · rw [if_neg c, ih]
      constructor
      · intro z; exact ⟨by omega, z.2⟩
      · intro z
        by_cases e : j = i
        · subst e; exact absurd z.2 c
        · exact ⟨by omega, z.2⟩
theorem ip_gt {s : Int32} {q i : Nat} (c : bt s i = true) (d : q ≤ ip_c s i) : ip_g s q (i + 1) = ip_g s q i ||| ((1 : Int32) <<< (nI i &&& 31)) := by
  show (if bt s i = true ∧ q ≤ ip_c s i then _ else _) = _
  rw [if_pos ⟨c, d⟩]
theorem ip_gf {s : Int32} {q i : Nat} (c : ¬ (bt s i = true ∧ q ≤ ip_c s i)) : ip_g s q (i + 1) = ip_g s q i := by
  show (if bt s i = true ∧ q ≤ ip_c s i then _ else _) = _
  rw [if_neg c]
/-- longs by their bits -/
def lb_b (x : Int64) (i : Nat) : Bool := x.toBitVec.getLsbD i
theorem lb_ext {x y : Int64} (h : ∀ i, i < 64 → lb_b x i = lb_b y i) : x = y := Int64.toBitVec_inj.mp (BitVec.eq_of_getLsbD_eq (fun i hi => h i hi))
theorem lb_or (x y : Int64) (i : Nat) : lb_b (x ||| y) i = (lb_b x i || lb_b y i) := by unfold lb_b; rw [Int64.toBitVec_or, BitVec.getLsbD_or]
theorem lb_and (x y : Int64) (i : Nat) : lb_b (x &&& y) i = (lb_b x i && lb_b y i) := by unfold lb_b; rw [Int64.toBitVec_and, BitVec.getLsbD_and]
theorem lb_xor (x y : Int64) (i : Nat) : lb_b (x ^^^ y) i = (lb_b x i ^^ lb_b y i) := by unfold lb_b; rw [Int64.toBitVec_xor, BitVec.getLsbD_xor]
theorem lb_big {x : Int64} {i : Nat} (h : 64 ≤ i) : lb_b x i = false := BitVec.getLsbD_of_ge _ _ h
theorem lb_m1 : ∀ i, i < 64 → lb_b (-1) i = true := by decide +kernel
theorem lb_0 (i : Nat) : lb_b 0 i = false := BitVec.getLsbD_zero
theorem lb_bit : ∀ k, k < 64 → ∀ i, i < 64 → lb_b ((1 : Int64) <<< ((nI k).toInt64 &&& 63)) i = decide (i = k) := by decide +kernel
theorem lb_sub (l m : Int64) : l &&& (m ^^^ (-1)) = 0 ↔ ∀ i, i < 64 → lb_b l i = true → lb_b m i = true := by
  constructor
  · intro h i hi hl
    have e := congrArg (fun z => lb_b z i) h
    rw [lb_and, lb_xor, lb_m1 i hi, hl, lb_0, Bool.true_and, Bool.xor_true] at e
    cases hm : lb_b m i
    · rw [hm] at e; exact absurd e (by decide)
    · rfl
  · intro h
    apply lb_ext
    intro i hi
    rw [lb_and, lb_xor, lb_m1 i hi, lb_0, Bool.xor_true]
    cases hl : lb_b l i
    · rfl
    · rw [h i hi hl]; rfl
/-- an event by two longs -/
def kb_b (l g : Int64) (e : Nat) : Bool := if e < 64 then lb_b l e else lb_b g (e - 64)
theorem kb_lo {l g : Int64} {e : Nat} (h : e < 64) : kb_b l g e = lb_b l e := if_pos h
theorem kb_hi {l g : Int64} {e : Nat} (h : ¬ e < 64) : kb_b l g e = lb_b g (e - 64) := if_neg h
theorem kb_0 (e : Nat) : kb_b 0 0 e = false := by
  by_cases h : e < 64
  · rw [kb_lo h, lb_0]
  · rw [kb_hi h, lb_0]
theorem kb_or (l g l' g' : Int64) (e : Nat) : kb_b (l ||| l') (g ||| g') e = (kb_b l g e || kb_b l' g' e) := by
  by_cases h : e < 64
  · rw [kb_lo h, kb_lo h, kb_lo h, lb_or]
  · rw [kb_hi h, kb_hi h, kb_hi h, lb_or]
theorem kb_le (l g l' g' : Int64) : (l &&& (l' ^^^ (-1)) = 0 ∧ g &&& (g' ^^^ (-1)) = 0) ↔ ∀ e, kb_b l g e = true → kb_b l' g' e = true := by
  rw [lb_sub, lb_sub]
  constructor
  · intro h e he
    by_cases z : e < 64
    · rw [kb_lo z] at he ⊢
      exact h.1 e z he
    · rw [kb_hi z] at he ⊢
      by_cases y : e - 64 < 64
      · exact h.2 _ y he
      · rw [lb_big (by omega)] at he; exact absurd he (by decide)
  · intro h
    refine ⟨fun i hi p => ?_, fun i hi p => ?_⟩
    · have q := h i
      rw [kb_lo hi, kb_lo hi] at q
      exact q p
    · have q := h (i + 64)
      rw [kb_hi (by omega), kb_hi (by omega), Nat.add_sub_cancel] at q
      exact q p
theorem kb_evl (l g : Int64) {n : Nat} (hn : n < 64) (e : Nat) : kb_b (l ||| ((1 : Int64) <<< ((nI n).toInt64 &&& 63))) g e = (kb_b l g e || decide (e = n)) := by
  by_cases h : e < 64
  · rw [kb_lo h, kb_lo h, lb_or, lb_bit n hn e h]
  · rw [kb_hi h, kb_hi h, decide_eq_false (by omega), Bool.or_false]
theorem kb_evh (l g : Int64) {n : Nat} (h0 : 64 ≤ n) (hn : n < 128) (e : Nat) : kb_b l (g ||| ((1 : Int64) <<< ((nI n - 64).toInt64 &&& 63))) e = (kb_b l g e || decide (e = n)) := by
  have x : nI n - 64 = nI (n - 64) := pk_sub (b := 64) h0
  rw [x]
  by_cases h : e < 64
  · rw [kb_lo h, kb_lo h, decide_eq_false (by omega), Bool.or_false]
  · rw [kb_hi h, kb_hi h, lb_or]
    by_cases y : e - 64 < 64
    · rw [lb_bit (n - 64) (by omega) _ y]
      by_cases z : e = n
      · rw [z, decide_eq_true rfl, decide_eq_true rfl]
      · rw [decide_eq_false z, decide_eq_false (by omega)]
    · rw [lb_big (x := (1 : Int64) <<< _) (by omega), decide_eq_false (by omega)]
end
section
/-! the component's walks, each against a pure picture. Heights: ih_a H, H holder by cell -/
def ih_a (H : Nat → Nat → Nat) : Nat → Int32 := fun j => nI (H (j / 32) (j % 32))
def ih_B (H : Nat → Nat → Nat) : Prop := ∀ x i, x < 16 → i < 32 → H x i ≤ 100
def ih_s (H : Nat → Nat → Nat) (x i v : Nat) : Nat → Nat → Nat := fun y k => if y = x ∧ k = i then v else H y k
theorem ix_e (x i : Nat) : nI x * 32 + nI i = nI (x * 32 + i) := by
  show nI x * nI 32 + nI i = _
  rw [pk_mul, nI_add]
theorem ix_in {x i : Nat} (hx : x < 16) (hi : i < 32) : vp_in (nI x * 32 + nI i) 512 := by
  rw [ix_e]; exact vp_in_nI (by omega) (by omega)
theorem ix_c {x i : Nat} (hx : x < 16) (hi : i < 32) : (nI x * 32 + nI i).toNatClampNeg = x * 32 + i := by
  rw [ix_e]; exact nI_clamp (by omega)
theorem ih_at (H : Nat → Nat → Nat) {x i : Nat} (hi : i < 32) : ih_a H (x * 32 + i) = nI (H x i) := by
  unfold ih_a
  rw [show (x * 32 + i) / 32 = x by omega, show (x * 32 + i) % 32 = i by omega]
theorem ih_rd (H : Nat → Nat → Nat) {x i : Nat} (hx : x < 16) (hi : i < 32) : ih_a H (nI x * 32 + nI i).toNatClampNeg = nI (H x i) := by
  rw [ix_c hx hi, ih_at H hi]
theorem ih_up (H : Nat → Nat → Nat) {x i v : Nat} (hx : x < 16) (hi : i < 32) : upd (ih_a H) (nI x * 32 + nI i).toNatClampNeg (nI v) = ih_a (ih_s H x i v) := by
  rw [ix_c hx hi]
  funext j
  by_cases z : j = x * 32 + i
  · rw [z, pk_us, ih_at _ hi]
    show nI v = nI (if x = x ∧ i = i then v else H x i)
    rw [if_pos ⟨rfl, rfl⟩]
  · rw [pk_un z]
    show nI (H (j / 32) (j % 32)) = nI (if j / 32 = x ∧ j % 32 = i then v else H (j / 32) (j % 32))
    rw [if_neg (by omega)]
theorem ih_nar : ∀ v, v < 128 → vp_nar .byte (nI v) = nI v := by
  intro v hv
  rw [vp_nar_byte]
  exact (by decide +kernel : ∀ v, v < 128 → (nI v).toInt8.toInt32 = nI v) v hv
theorem ih_ext {H H' : Nat → Nat → Nat} (h : ∀ x i, i < 32 → H x i = H' x i) : ih_a H = ih_a H' :=
  funext fun j => congrArg nI (h _ _ (Nat.mod_lt _ (by decide)))
/-- a branch that answers 0 or 1 -/
theorem ic_c {c P : Prop} (post : Int32 → Prop) (e : c ↔ ¬ P) (h : post (ic_b P)) : (c → post 0) ∧ (¬ c → post 1) := by
  rcases Classical.em P with z | z
  · rw [ic_bt z] at h
    exact br_f (fun y => e.mp y z) h
  · rw [ic_bf z] at h
    exact br_t (e.mpr z) h
/-- who is there, by an int of any kind -/
def ic_th (th p : Int32) : Prop := ∃ x, x < 16 ∧ p = nI x ∧ bt th x = true
def ic_pa (th p : Int32) : Prop := ∃ x, x < 8 ∧ p = nI x ∧ bt th x = true
theorem ic_th_n {th : Int32} {x : Nat} (hx : x < 16) : ic_th th (nI x) ↔ bt th x = true := by
  constructor
  · intro ⟨y, hy, e, z⟩
    have := (nI_eq (by omega) (by omega)).mp e
    rw [this]; exact z
  · intro z; exact ⟨x, hx, rfl, z⟩
theorem ic_pa_n {th : Int32} {x : Nat} (hx : x < 8) : ic_pa th (nI x) ↔ bt th x = true := by
  constructor
  · intro ⟨y, hy, e, z⟩
    have := (nI_eq (by omega) (by omega)).mp e
    rw [this]; exact z
  · intro z; exact ⟨x, hx, rfl, z⟩
theorem ic_lt0 {p : Int32} {x : Nat} (hx : x < 16) (e : p = nI x) : ¬ p < 0 := by
  rw [e]; exact nI_pos (by omega)
theorem ic_ge {p : Int32} {x b : Nat} (hx : x < b) (hb : b < 2 ^ 31) (e : p = nI x) : ¬ nI b ≤ p := by
  rw [e]; exact nI_ge hx hb
theorem ic_0 {p : Int32} {b : Nat} (hb : b < 2 ^ 31) (h : nI b ≤ p) : ¬ p < 0 := by
  intro z
  have a := Int32.le_iff_toInt_le.mp h
  have c := Int32.lt_iff_toInt_lt.mp z
  rw [nI_toInt hb] at a
  rw [Int32.toInt_zero] at c
  omega
section
variable {th ct : Int32} {own ah : Nat → Int32} {H : Nat → Nat → Nat}
theorem wx_there {post : Int32 → Prop} {p : Int32} (h : post (ic_b (ic_th th p))) : wpX_isThere post (th, ct, own, ah) p := by
  rcases pk_ix p (n := 16) (by decide) with z | z | ⟨x, hx, rfl⟩
  · rw [ic_bf (fun ⟨y, hy, e, _⟩ => ic_lt0 hy e z)] at h
    exact br_t z h
  · rw [ic_bf (fun ⟨y, hy, e, _⟩ => ic_ge hy (by decide) e z)] at h
    exact br_f (ic_0 (by decide) z) (br_t z h)
  · rw [ic_be (ic_th_n hx)] at h
    refine br_f (nI_pos (by omega)) (br_f (nI_ge (b := 16) hx (by decide)) (ic_c post ?_ h))
    rw [ib_s th (by omega), ib_z]
theorem wx_thereN {post : Int32 → Prop} {x : Nat} (hx : x < 16) (h : post (ic_b (bt th x = true))) : wpX_isThere post (th, ct, own, ah) (nI x) := by
  rw [← ic_be (ic_th_n hx)] at h
  exact wx_there h
theorem wx_party {post : Int32 → Prop} {p : Int32} (h : post (ic_b (ic_pa th p))) : wpX_isParty post (th, ct, own, ah) p := by
  by_cases z : (8 : Int32) ≤ p
  · rw [ic_bf (fun ⟨y, hy, e, _⟩ => ic_ge hy (by decide) e z)] at h
    exact br_t z h
  · have q : ic_th th p ↔ ic_pa th p := by
      constructor
      · intro ⟨x, hx, e, y⟩
        refine ⟨x, ?_, e, y⟩
        rw [e] at z
        rcases Nat.lt_or_ge x 8 with l | l
        · exact l
        · exact absurd (nI_le l (by omega)) z
      · intro ⟨x, hx, e, y⟩; exact ⟨x, by omega, e, y⟩
    rw [← ic_be q] at h
    exact br_f z (wx_there (ic_br (fun n => by rw [ic_bf n] at h; exact h) (fun y => by rw [ic_bt y] at h; exact h)))
theorem wx_ones_l {post : Int32 → Prop} {s : Int32} (hp : post (nI (ip_c s 32))) : ∀ d i, i + d = 32 → wX_ones_4 post s (d + 1) (nI (ip_c s i)) (nI i)
  | 0, i, h => by
    have e : i = 32 := by omega
    subst e
    exact br_t (nI_le (a := 32) (b := 32) (Nat.le_refl _) (by decide)) hp
  | d + 1, i, h => by
    have hi : i < 32 := by omega
    refine br_f (nI_ge (b := 32) hi (by decide)) (nm_r (e' := nI (ip_c s (i + 1))) ?_ (nm_r (nI_1 i) (wx_ones_l hp d (i + 1) (by omega))))
    rw [ib_u s hi, nI_add]; rfl
theorem wx_ones {post : Int32 → Prop} {s : Int32} (hp : post (nI (ip_c s 32))) : wpX_ones post s := Exists.intro 33 (wx_ones_l hp 32 0 rfl)
theorem wx_has {post : Int32 → Prop} {a i : Nat} (ha : a < 8) (hi : i < 32) (h : post (ic_b (bt (own a) i = true))) : wpX_has post (th, ct, own, ah) (nI a) (nI i) := by
  refine And.intro (vp_in_nI ha (by decide)) (ic_c post ?_ h)
  rw [nI_clamp (by omega), ib_u _ hi, ib_z]
/-! copy -/
def ih_cp (H : Nat → Nat → Nat) (f t i : Nat) : Nat → Nat → Nat := fun x k => if x = t ∧ k < i then H f k else H x k
def ih_c1 (H : Nat → Nat → Nat) (f t : Nat) : Nat → Nat → Nat := fun x => if x = t then H f else H x
theorem ih_cp_at {f t i : Nat} : ih_cp H f t i f i = H f i := if_neg (by omega)
theorem ih_cp_s {f t i : Nat} : ih_s (ih_cp H f t i) t i (H f i) = ih_cp H f t (i + 1) := by
  funext x k
  show (if x = t ∧ k = i then H f i else if x = t ∧ k < i then H f k else H x k) = if x = t ∧ k < i + 1 then H f k else H x k
  by_cases a : x = t ∧ k = i
  · rw [if_pos a, if_pos ⟨a.1, by omega⟩, a.2]
  · rw [if_neg a]
    by_cases b : x = t ∧ k < i
    · rw [if_pos b, if_pos ⟨b.1, by omega⟩]
    · rw [if_neg b, if_neg (by omega)]
theorem ih_cp_0 {f t : Nat} : ih_cp H f t 0 = H := by
  funext x k
  exact if_neg (by omega)
theorem ih_cp_32 {f t : Nat} : ih_a (ih_cp H f t 32) = ih_a (ih_c1 H f t) := by
  apply ih_ext
  intro x i hi
  show (if x = t ∧ i < 32 then H f i else H x i) = (if x = t then H f else H x) i
  by_cases a : x = t
  · rw [if_pos ⟨a, hi⟩, if_pos a]
  · rw [if_neg (fun z => a z.1), if_neg a]
theorem wx_copy_l {post : SX → Prop} {f t : Nat} (hf : f < 16) (ht : t < 16) (hH : ih_B H) (hp : post (th, ct, own, ih_a (ih_cp H f t 32))) :
    ∀ d i, i + d = 32 → wX_copy_2 post (nI f) (nI t) th ct (d + 1) (nI i) own (ih_a (ih_cp H f t i))
  | 0, i, h => by
    have e : i = 32 := by omega
    subst e
    exact br_t (nI_le (a := 32) (b := 32) (Nat.le_refl _) (by decide)) hp
  | d + 1, i, h => by
    have hi : i < 32 := by omega
    have e : upd (ih_a (ih_cp H f t i)) (nI t * 32 + nI i).toNatClampNeg (vp_nar .byte (ih_a (ih_cp H f t i) (nI f * 32 + nI i).toNatClampNeg)) = ih_a (ih_cp H f t (i + 1)) := by
      have b := hH f i hf hi
      rw [ih_rd _ hf hi, ih_cp_at, ih_nar _ (by omega), ih_up _ ht hi, ih_cp_s]
    exact br_f (nI_ge (b := 32) hi (by decide)) (And.intro (ix_in hf hi) (And.intro (ix_in ht hi) (nm_r e (nm_r (nI_1 i) (wx_copy_l hf ht hH hp d (i + 1) (by omega))))))
theorem wx_copy {post : SX → Prop} {f t : Nat} (hf : f < 16) (ht : t < 16) (hH : ih_B H) (hp : post (th, ct, own, ih_a (ih_c1 H f t))) :
    wpX_copy post (th, ct, own, ih_a H) (nI f) (nI t) := by
  rw [← ih_cp_32] at hp
  have q := wx_copy_l hf ht hH hp 32 0 rfl
  rw [ih_cp_0] at q
  exact Exists.intro 33 q
/-! raise -/
def ih_rs (H : Nat → Nat → Nat) (t f i : Nat) : Nat → Nat → Nat := fun x k => if x = t ∧ k < i then max (H t k) (H f k) else H x k
def ih_r1 (H : Nat → Nat → Nat) (t f : Nat) : Nat → Nat → Nat := fun x => if x = t then fun k => max (H t k) (H f k) else H x
theorem ih_rs_f {f t i : Nat} : ih_rs H t f i f i = H f i := if_neg (by omega)
theorem ih_rs_t {f t i : Nat} : ih_rs H t f i t i = H t i := if_neg (by omega)
theorem ih_rs_k {f t i : Nat} (l : H f i ≤ H t i) : ih_rs H t f (i + 1) = ih_rs H t f i := by
  funext x k
  show (if x = t ∧ k < i + 1 then max (H t k) (H f k) else H x k) = if x = t ∧ k < i then max (H t k) (H f k) else H x k
  by_cases b : x = t ∧ k < i
  · rw [if_pos b, if_pos ⟨b.1, by omega⟩]
  · rw [if_neg b]
    by_cases a : x = t ∧ k < i + 1
    · have e : k = i := by omega
      rw [if_pos a, e, a.1, Nat.max_eq_left l]
    · rw [if_neg a]
theorem ih_rs_s {f t i : Nat} (l : H t i < H f i) : ih_s (ih_rs H t f i) t i (H f i) = ih_rs H t f (i + 1) := by
  funext x k
  show (if x = t ∧ k = i then H f i else if x = t ∧ k < i then max (H t k) (H f k) else H x k) = if x = t ∧ k < i + 1 then max (H t k) (H f k) else H x k
  by_cases a : x = t ∧ k = i
  · rw [if_pos a, if_pos ⟨a.1, by omega⟩, a.2, Nat.max_eq_right (Nat.le_of_lt l)]
  · rw [if_neg a]
    by_cases b : x = t ∧ k < i
    · rw [if_pos b, if_pos ⟨b.1, by omega⟩]
    · rw [if_neg b, if_neg (by omega)]
theorem ih_rs_0 {f t : Nat} : ih_rs H t f 0 = H := by
  funext x k
  exact if_neg (by omega)
theorem ih_rs_32 {f t : Nat} : ih_a (ih_rs H t f 32) = ih_a (ih_r1 H t f) := by
  apply ih_ext
  intro x i hi
  show (if x = t ∧ i < 32 then max (H t i) (H f i) else H x i) = (if x = t then (fun k => max (H t k) (H f k)) else H x) i
  by_cases a : x = t
  · rw [if_pos ⟨a, hi⟩, if_pos a]
  · rw [if_neg (fun z => a z.1), if_neg a]
theorem wx_raise_l {post : Int32 → SX → Prop} {t f : Nat} (ht : t < 16) (hf : f < 16) (hH : ih_B H) (hp : post (ic_b (∃ k, k < 32 ∧ H t k < H f k)) (th, ct, own, ih_a (ih_rs H t f 32))) :
    ∀ d i, i + d = 32 → wX_raise_5 post (nI t) (nI f) th ct (d + 1) (ic_b (∃ k, k < i ∧ H t k < H f k)) (nI i) own (ih_a (ih_rs H t f i))
  | 0, i, h => by
    have e : i = 32 := by omega
    subst e
    exact br_t (nI_le (a := 32) (b := 32) (Nat.le_refl _) (by decide)) (And.intro (ic_bn _) hp)
  | d + 1, i, h => by
    have hi : i < 32 := by omega
    have q := wx_raise_l ht hf hH hp d (i + 1) (by omega)
    have bf := hH f i hf hi
    have bt' := hH t i ht hi
    refine br_f (nI_ge (b := 32) hi (by decide)) (And.intro (ix_in hf hi) (And.intro (ix_in ht hi) (pk_le (H f i) (H t i) (fun l => ?_) (fun l => ?_) ((ih_rd _ hf hi).trans (congrArg nI ih_rs_f)) ((ih_rd _ ht hi).trans (congrArg nI ih_rs_t)) (by omega) (by omega))))
    · have e : (∃ k, k < i + 1 ∧ H t k < H f k) ↔ (∃ k, k < i ∧ H t k < H f k) := by
        constructor
        · intro ⟨k, hk, z⟩
          refine ⟨k, ?_, z⟩
          rcases Nat.lt_or_eq_of_le (Nat.le_of_lt_succ hk) with y | y
          · exact y
          · rw [y] at z; omega
        · intro ⟨k, hk, z⟩; exact ⟨k, by omega, z⟩
      rw [ih_rs_k l, ic_be e] at q
      exact nm_r (nI_1 i) q
    · rw [ic_bt ⟨i, Nat.lt_succ_self i, l⟩] at q
      have e : upd (ih_a (ih_rs H t f i)) (nI t * 32 + nI i).toNatClampNeg (vp_nar .byte (ih_a (ih_rs H t f i) (nI f * 32 + nI i).toNatClampNeg)) = ih_a (ih_rs H t f (i + 1)) := by
        rw [ih_rd _ hf hi, ih_rs_f, ih_nar _ (by omega), ih_up _ ht hi, ih_rs_s l]
      exact And.intro (ix_in hf hi) (And.intro (ix_in ht hi) (nm_r e (nm_r (nI_1 i) q)))
theorem wx_raise {post : Int32 → SX → Prop} {t f : Nat} (ht : t < 16) (hf : f < 16) (hH : ih_B H) (hp : post (ic_b (∃ k, k < 32 ∧ H t k < H f k)) (th, ct, own, ih_a (ih_r1 H t f))) :
    wpX_raise post (th, ct, own, ih_a H) (nI t) (nI f) := by
  rw [← ih_rs_32] at hp
  have q := wx_raise_l ht hf hH hp 32 0 rfl
  rw [ih_rs_0, ic_bf (fun ⟨k, hk, _⟩ => absurd hk (Nat.not_lt_zero k))] at q
  exact Exists.intro 33 q
/-! under -/
theorem wx_under_l {post : Int32 → Prop} {x y : Nat} (hx : x < 16) (hy : y < 16) (hH : ih_B H) (hp : post (ic_b (∀ i, i < 32 → H x i ≤ H y i))) :
    ∀ d i, i + d = 32 → (∀ k, k < i → H x k ≤ H y k) → wX_under_2 post (nI x) (nI y) th ct own (ih_a H) (d + 1) (nI i)
  | 0, i, h, hl => by
    have e : i = 32 := by omega
    subst e
    rw [ic_bt hl] at hp
    exact br_t (nI_le (a := 32) (b := 32) (Nat.le_refl _) (by decide)) hp
  | d + 1, i, h, hl => by
    have hi : i < 32 := by omega
    have bx := hH x i hx hi
    have by' := hH y i hy hi
    refine br_f (nI_ge (b := 32) hi (by decide)) (And.intro (ix_in hx hi) (And.intro (ix_in hy hi) (pk_le (H x i) (H y i) (fun l => ?_) (fun l => ?_) (ih_rd _ hx hi) (ih_rd _ hy hi) (by omega) (by omega))))
    · exact nm_r (nI_1 i) (wx_under_l hx hy hH hp d (i + 1) (by omega) (lt_s hl l))
    · rw [ic_bf (fun z => absurd (z i hi) (by omega))] at hp
      exact hp
theorem wx_under {post : Int32 → Prop} {x y : Nat} (hx : x < 16) (hy : y < 16) (hH : ih_B H) (hp : post (ic_b (∀ i, i < 32 → H x i ≤ H y i))) :
    wpX_under post (th, ct, own, ih_a H) (nI x) (nI y) := Exists.intro 33 (wx_under_l hx hy hH hp 32 0 rfl lt_0)
end
end
section
/-! the component's split and event -/
def ip_o (own : Nat → Int32) (a b : Nat) (g : Int32) : Nat → Int32 := fun j => if j = a then own a &&& (g ^^^ (-1)) else if j = b then g else own j
theorem ip_o_e {own : Nat → Int32} {a b : Nat} {g : Int32} (hab : a ≠ b) : upd (upd own b g) a (upd own b g a &&& (g ^^^ (-1))) = ip_o own a b g := by
  funext j
  rw [pk_un hab]
  show _ = if j = a then own a &&& (g ^^^ (-1)) else if j = b then g else own j
  by_cases z : j = a
  · rw [if_pos z, z, pk_us]
  · rw [if_neg z, pk_un z]
    by_cases y : j = b
    · rw [if_pos y, y, pk_us]
    · rw [if_neg y, pk_un y]
/-- the highest of the cells O -/
def it_p (r : Nat → Nat) (O : Nat → Bool) : Nat → Nat
  | 0 => 0
  | i + 1 => if O i = true then max (it_p r O i) (r i) else it_p r O i
theorem it_t {r : Nat → Nat} {O : Nat → Bool} {i : Nat} (h : O i = true) : it_p r O (i + 1) = max (it_p r O i) (r i) := if_pos h
theorem it_f {r : Nat → Nat} {O : Nat → Bool} {i : Nat} (h : ¬ O i = true) : it_p r O (i + 1) = it_p r O i := if_neg h
theorem it_ge {r : Nat → Nat} {O : Nat → Bool} : ∀ i k, k < i → O k = true → r k ≤ it_p r O i
  | 0, k, h, _ => absurd h (Nat.not_lt_zero k)
  | i + 1, k, h, o => by
    rcases Nat.lt_or_eq_of_le (Nat.le_of_lt_succ h) with l | l
    · have q := it_ge (r := r) i k l o
      by_cases z : O i = true
      · rw [it_t z]; exact Nat.le_trans q (Nat.le_max_left _ _)
      · rw [it_f z]; exact q
    · rw [l] at o ⊢
      rw [it_t o]; exact Nat.le_max_right _ _
theorem it_le {r : Nat → Nat} {O : Nat → Bool} {B : Nat} (h : ∀ k, k < 32 → r k ≤ B) : ∀ i, i ≤ 32 → it_p r O i ≤ B
  | 0, _ => Nat.zero_le B
  | i + 1, hi => by
    have q := it_le (O := O) h i (by omega)
    by_cases z : O i = true
    · rw [it_t z]; exact Nat.max_le.mpr ⟨q, h i (by omega)⟩
    · rw [it_f z]; exact q
def ih_ev (H : Nat → Nat → Nat) (a : Nat) (O : Nat → Bool) (t i : Nat) : Nat → Nat → Nat := fun x k => if x = a ∧ k < i ∧ O k = true then t + 1 else H x k
def ih_e1 (H : Nat → Nat → Nat) (a : Nat) (O : Nat → Bool) (t : Nat) : Nat → Nat → Nat := fun x => if x = a then fun i => if O i = true then t + 1 else H a i else H x
section
variable {th ct : Int32} {own ah : Nat → Int32} {H : Nat → Nat → Nat}
theorem ih_ev_k {a t i : Nat} {O : Nat → Bool} (h : ¬ O i = true) : ih_ev H a O t (i + 1) = ih_ev H a O t i := by
  funext x k
  show (if x = a ∧ k < i + 1 ∧ O k = true then t + 1 else H x k) = if x = a ∧ k < i ∧ O k = true then t + 1 else H x k
  by_cases b : x = a ∧ k < i ∧ O k = true
  · rw [if_pos b, if_pos ⟨b.1, by omega, b.2.2⟩]
  · rw [if_neg b, if_neg]
    intro ⟨c1, c2, c3⟩
    apply b
    refine ⟨c1, ?_, c3⟩
    rcases Nat.lt_or_eq_of_le (Nat.le_of_lt_succ c2) with l | l
    · exact l
    · rw [l] at c3; exact absurd c3 h
theorem ih_ev_s {a t i : Nat} {O : Nat → Bool} (h : O i = true) : ih_s (ih_ev H a O t i) a i (t + 1) = ih_ev H a O t (i + 1) := by
  funext x k
  show (if x = a ∧ k = i then t + 1 else if x = a ∧ k < i ∧ O k = true then t + 1 else H x k) = if x = a ∧ k < i + 1 ∧ O k = true then t + 1 else H x k
  by_cases c : x = a ∧ k = i
  · rw [if_pos c, if_pos ⟨c.1, by omega, by rw [c.2]; exact h⟩]
  · rw [if_neg c]
    by_cases b : x = a ∧ k < i ∧ O k = true
    · rw [if_pos b, if_pos ⟨b.1, by omega, b.2.2⟩]
    · rw [if_neg b, if_neg]
      intro ⟨c1, c2, c3⟩
      exact b ⟨c1, by omega, c3⟩
theorem ih_ev_0 {a t : Nat} {O : Nat → Bool} : ih_ev H a O t 0 = H := by
  funext x k
  exact if_neg (fun z => absurd z.2.1 (Nat.not_lt_zero k))
theorem ih_ev_32 {a t : Nat} {O : Nat → Bool} : ih_a (ih_ev H a O t 32) = ih_a (ih_e1 H a O t) := by
  apply ih_ext
  intro x i hi
  show (if x = a ∧ i < 32 ∧ O i = true then t + 1 else H x i) = (if x = a then fun i => if O i = true then t + 1 else H a i else H x) i
  by_cases z : x = a
  · rw [if_pos z]
    by_cases o : O i = true
    · rw [if_pos ⟨z, hi, o⟩, if_pos o]
    · rw [if_neg (fun y => o y.2.2), if_neg o, z]
  · rw [if_neg (fun y => z y.1), if_neg z]
theorem wx_split72_l {post : Int32 → SX → Prop} {a b q : Nat} (ha : a < 8) (hb : b < 8) (hab : a ≠ b) (hq : q ≤ 32) (hH : ih_B H)
    (hp : post (nI b) (th ||| ((1 : Int32) <<< (nI b &&& 31)), ct, ip_o own a b (ip_g (own a) q 32), ih_a (ih_c1 H a b))) :
    ∀ d i, i + d = 32 → wX_split_72 post (nI a) (nI b) (nI q) th ct own (ih_a H) (d + 1) (ip_g (own a) q i) (nI (ip_c (own a) i)) (nI i)
  | 0, i, h => by
    have e : i = 32 := by omega
    subst e
    refine br_t (nI_le (a := 32) (b := 32) (Nat.le_refl _) (by decide)) (And.intro (vp_in_nI hb (by decide)) (nm_e (And.intro (vp_in_nI ha (by decide)) (And.intro (vp_in_nI ha (by decide)) (nm_r (e' := ip_o own a b (ip_g (own a) q 32)) ?_ (wx_copy (by omega) (by omega) hH (nm_e hp)))))))
    rw [nI_clamp (n := b) (by omega), nI_clamp (n := a) (by omega)]
    exact ip_o_e hab
  | d + 1, i, h => by
    have hi : i < 32 := by omega
    have Q := wx_split72_l ha hb hab hq hH hp d (i + 1) (by omega)
    have bc := ip_le (own a) i
    refine br_f (nI_ge (b := 32) hi (by decide)) (wx_has ha hi (ic_br (fun nb => ?_) (fun hb' => pk_lt (ip_c (own a) i) q (fun l => ?_) (fun l => ?_) rfl rfl (by omega) (by omega))))
    · rw [ip_gf (fun z => nb z.1), ip_f nb] at Q
      exact nm_r (nI_1 i) Q
    · rw [ip_gf (fun z => absurd z.2 (by omega)), ip_t hb'] at Q
      exact nm_r (ib_or0 _) (nm_r (nI_1 _) (nm_r (nI_1 i) Q))
    · rw [ip_gt hb' l, ip_t hb'] at Q
      exact nm_e (nm_r (nI_1 _) (nm_r (nI_1 i) Q))
theorem ip_half {m : Nat} (hm : m ≤ 32) : nI m - nI m / 2 = nI (m - m / 2) := by
  show nI m - nI m / nI 2 = _
  rw [pk_div (by omega) (by decide) (by decide), pk_sub (by omega)]
theorem wx_split42 {post : Int32 → SX → Prop} {a b m : Nat} (ha : a < 8) (hb : b ≤ 8) (hab : a ≠ b) (hm : m ≤ 32) (hH : ih_B H)
    (h8 : b = 8 ∨ m < 2 → post (-2) (th, ct, own, ih_a H))
    (hp : b < 8 → 2 ≤ m → post (nI b) (th ||| ((1 : Int32) <<< (nI b &&& 31)), ct, ip_o own a b (ip_g (own a) (m - m / 2) 32), ih_a (ih_c1 H a b))) :
    wX_split_42 post (nI a) (nI m) (nI b) th ct own (ih_a H) :=
  pk_eq b 8 (fun e => h8 (Or.inl e)) (fun ne => pk_le 2 m (fun l => And.intro (by decide) (nm_r (ip_half hm) (Exists.intro 33 (wx_split72_l ha (by omega) hab (by omega) hH (hp (by omega) l) 32 0 rfl)))) (fun l => h8 (Or.inr l)))
theorem wx_split22_l {post : Int32 → SX → Prop} {b : Nat} {x1 x2 : Int32} (hb : b ≤ 8) (hc : ∀ c, c < b → bt th c = true) (hf : b < 8 → ¬ bt th b = true)
    (hp : wX_split_42 post x1 x2 (nI b) th ct own ah) : ∀ d i, i + d = b → wX_split_22 post x1 x2 th ct own ah (d + 1) (nI i)
  | 0, i, h => by
    have e : i = b := by omega
    subst e
    exact pk_le 8 i (fun _ => hp) (fun l => wx_thereN (by omega) (ic_br (fun _ => hp) (fun z => absurd z (hf l))))
  | d + 1, i, h => br_f (nI_ge (b := 8) (by omega) (by decide)) (wx_thereN (by omega) (ic_br (fun z => absurd (hc i (by omega)) z) (fun _ => nm_r (nI_1 i) (wx_split22_l hb hc hf hp d (i + 1) (by omega)))))
theorem wx_split {post : Int32 → SX → Prop} {p : Int32} (hH : ih_B H) (hn : ¬ ic_pa th p → post (-1) (th, ct, own, ih_a H))
    (hy : ∀ a, a < 8 → p = nI a → bt th a = true → ∃ b, b ≤ 8 ∧ (∀ c, c < b → bt th c = true) ∧ (b < 8 → ¬ bt th b = true) ∧
      (b = 8 ∨ ip_c (own a) 32 < 2 → post (-2) (th, ct, own, ih_a H)) ∧
      (b < 8 → 2 ≤ ip_c (own a) 32 → post (nI b) (th ||| ((1 : Int32) <<< (nI b &&& 31)), ct, ip_o own a b (ip_g (own a) (ip_c (own a) 32 - ip_c (own a) 32 / 2) 32), ih_a (ih_c1 H a b)))) :
    wpX_split post (th, ct, own, ih_a H) p := by
  unfold wpX_split
  dsimp only
  refine wx_party (ic_br hn (fun z => ?_))
  obtain ⟨a, ha, e, ta⟩ := z
  subst e
  obtain ⟨b, hb, hc, hf, h8, hp⟩ := hy a ha rfl ta
  have hab : a ≠ b := by
    intro z
    rw [z] at ta
    exact hf (by omega) ta
  refine And.intro (vp_in_nI ha (by decide)) ?_
  rw [nI_clamp (n := a) (by omega)]
  exact wx_ones (Exists.intro (b + 1) (wx_split22_l hb hc hf (wx_split42 ha hb hab (ip_le _ 32) hH h8 hp) b 0 (Nat.zero_add b)))
theorem wx_e56 {post : Int32 → SX → Prop} {J : Int32 → Int32 → Prop} {x1 : Int32} {t i z : Nat} (ht : t < 2 ^ 31) (hz : z < 2 ^ 31) (h : J (nI (max t z)) (nI (i + 1))) :
    wX_event_56 post J x1 (nI t) (nI i) (nI z) th ct own ah :=
  pk_le z t (fun l => nm_r (nI_1 i) (by rw [Nat.max_eq_left l] at h; exact h)) (fun l => nm_r (nI_1 i) (by rw [Nat.max_eq_right (Nat.le_of_lt l)] at h; exact h)) rfl rfl hz ht
theorem ih_nar2 {t : Nat} (h : t ≤ 100) : vp_nar .byte ((nI t + 1).toInt8.toInt32) = nI (t + 1) := by
  rw [nI_1, ← vp_nar_byte, ih_nar _ (by omega), ih_nar _ (by omega)]
theorem wx_ev79_l {post : Int32 → SX → Prop} {a t : Nat} (ha : a < 8) (ht : t ≤ 100) (hp : post (ct + 1) (th, ct + 1, own, ih_a (ih_ev H a (bt (own a)) t 32))) :
    ∀ d i, i + d = 32 → wX_event_79 post (nI a) (nI t) th ct (d + 1) (nI i) own (ih_a (ih_ev H a (bt (own a)) t i))
  | 0, i, h => by
    have e : i = 32 := by omega
    subst e
    exact br_t (nI_le (a := 32) (b := 32) (Nat.le_refl _) (by decide)) (nm_e hp)
  | d + 1, i, h => by
    have hi : i < 32 := by omega
    have Q := wx_ev79_l ha ht hp d (i + 1) (by omega)
    refine br_f (nI_ge (b := 32) hi (by decide)) (wx_has ha hi (ic_br (fun nb => ?_) (fun hb => ?_)))
    · rw [ih_ev_k nb] at Q
      exact nm_r (nI_1 i) Q
    · refine And.intro (ix_in (by omega) hi) (nm_r (e' := ih_a (ih_ev H a (bt (own a)) t (i + 1))) ?_ (nm_r (nI_1 i) Q))
      rw [ih_nar2 ht, ih_up _ (by omega) hi, ih_ev_s hb]
theorem wx_ev26_l {post : Int32 → SX → Prop} {a : Nat} (ha : a < 8) (hH : ih_B H) (hp : post (ct + 1) (th, ct + 1, own, ih_a (ih_e1 H a (bt (own a)) (it_p (H a) (bt (own a)) 32)))) :
    ∀ d i, i + d = 32 → wX_event_26 post (nI a) th ct own (ih_a H) (d + 1) (nI (it_p (H a) (bt (own a)) i)) (nI i)
  | 0, i, h => by
    have e : i = 32 := by omega
    subst e
    rw [← ih_ev_32] at hp
    have q := wx_ev79_l ha (it_le (fun k hk => hH a k (by omega) hk) 32 (Nat.le_refl _)) hp 32 0 rfl
    rw [ih_ev_0] at q
    exact br_t (nI_le (a := 32) (b := 32) (Nat.le_refl _) (by decide)) (Exists.intro 33 q)
  | d + 1, i, h => by
    have hi : i < 32 := by omega
    have Q := wx_ev26_l ha hH hp d (i + 1) (by omega)
    have b1 := hH a i (by omega) hi
    have b2 : it_p (H a) (bt (own a)) i ≤ 100 := it_le (fun k hk => hH a k (by omega) hk) i (by omega)
    refine br_f (nI_ge (b := 32) hi (by decide)) (wx_has ha hi (ic_br (fun nb => ?_) (fun hb => And.intro (ix_in (by omega) hi) ?_)))
    · refine wx_e56 (z := 0) (by omega) (by omega) ?_
      rw [it_f nb] at Q
      rw [Nat.max_eq_left (Nat.zero_le _)]
      exact Q
    · rw [ih_rd _ (by omega) hi]
      refine wx_e56 (by omega) (by omega) ?_
      rw [it_t hb] at Q
      exact Q
theorem wx_event {post : Int32 → SX → Prop} {p : Int32} {n : Nat} (hH : ih_B H) (hl : n ≤ 100) (hn : ¬ ic_pa th p → post (-1) (th, nI n, own, ih_a H))
    (hy : ∀ a, a < 8 → p = nI a → bt th a = true → (100 ≤ n → post (-2) (th, nI n, own, ih_a H)) ∧
      (n < 100 → post (nI (n + 1)) (th, nI (n + 1), own, ih_a (ih_e1 H a (bt (own a)) (it_p (H a) (bt (own a)) 32))))) :
    wpX_event post (th, nI n, own, ih_a H) p := by
  unfold wpX_event
  dsimp only
  refine wx_party (ic_br hn (fun z => ?_))
  obtain ⟨a, ha, e, ta⟩ := z
  subst e
  obtain ⟨h1, h2⟩ := hy a ha rfl ta
  refine pk_lt n 100 (fun l => Exists.intro 33 (wx_ev26_l ha hH ?_ 32 0 rfl)) (fun l => h1 l)
  rw [nI_1]
  exact h2 l
end
end
section
/-! the reference's walks -/
def ic_F (lo up : Nat → Int64) (x y : Nat) : Prop := ∀ e, kb_b (lo x) (up x) e = true → kb_b (lo y) (up y) e = true
def ic_T (th : Int32) (tb : Nat → Int32) : Prop := (∀ x, x < 16 → tb x = ic_b (bt th x = true)) ∧ (∀ i, 16 ≤ i → i < 32 → bt th i = false)
theorem ic_b0 {P : Prop} : ic_b P = 0 ↔ ¬ P := by
  rcases Classical.em P with h | h
  · rw [ic_bt h]; exact ⟨fun z => absurd z (by decide), fun z => absurd h z⟩
  · rw [ic_bf h]; exact ⟨fun _ => h, fun _ => rfl⟩
theorem ic_tb {th : Int32} {tb : Nat → Int32} {x : Nat} (hT : ic_T th tb) (hx : x < 16) : tb (nI x).toNatClampNeg = 0 ↔ ¬ bt th x = true := by
  rw [nI_clamp (by omega), hT.1 x hx, ic_b0]
theorem ic_gt {p : Int32} {b : Nat} (hb : b + 1 < 2 ^ 31) (h : nI (b + 1) ≤ p) : nI b < p := by
  have a := Int32.le_iff_toInt_le.mp h
  rw [nI_toInt hb] at a
  rw [Int32.lt_iff_toInt_lt, nI_toInt (by omega)]
  omega
/-- a branch on who is there -/
theorem iy_t {th : Int32} {tb : Nat → Int32} {x : Nat} {A B : Prop} (hT : ic_T th tb) (hx : x < 16) (a : ¬ bt th x = true → A) (b : bt th x = true → B) :
    (tb (nI x).toNatClampNeg = 0 → A) ∧ (¬ tb (nI x).toNatClampNeg = 0 → B) := by
  rw [ic_tb hT hx]
  exact ⟨a, fun z => b (Classical.not_not.mp z)⟩
def iy_h (had : Nat → Int32) (a b : Nat) (s : Int32) (q i : Nat) : Nat → Int32 := fun j => if j = b then ip_g s q i else if j = a then s &&& (ip_g s q i ^^^ (-1)) else had j
theorem iy_h_b {had : Nat → Int32} {a b : Nat} {s : Int32} {q i : Nat} : iy_h had a b s q i b = ip_g s q i := if_pos rfl
theorem iy_h_a {had : Nat → Int32} {a b : Nat} {s : Int32} {q i : Nat} (hab : a ≠ b) : iy_h had a b s q i a = s &&& (ip_g s q i ^^^ (-1)) := by
  unfold iy_h; rw [if_neg hab, if_pos rfl]
theorem iy_m (s g w : Int32) : (s &&& (g ^^^ (-1))) &&& (w ^^^ (-1)) = s &&& ((g ||| w) ^^^ (-1)) := by
  apply b_ext
  intro i hi
  rw [b_and, b_and, b_and, b_xor, b_xor, b_xor, b_or, b_m1 i hi]
  cases bt s i <;> cases bt g i <;> cases bt w i <;> rfl
theorem iy_n (s : Int32) : s &&& (0 ^^^ (-1)) = s := by
  apply b_ext
  intro i hi
  rw [b_and, b_xor, b_0, b_m1 i hi]
  cases bt s i <;> rfl
theorem iy_us (f : Nat → Int32) (k : Nat) : upd f k (f k) = f := by
  funext j
  by_cases z : j = k
  · rw [z, pk_us]
  · rw [pk_un z]
theorem iy_h_0 {had : Nat → Int32} {a b : Nat} {q : Nat} (hab : a ≠ b) : upd had b 0 = iy_h had a b (had a) q 0 := by
  funext j
  show _ = if j = b then (0 : Int32) else if j = a then had a &&& (0 ^^^ (-1)) else had j
  by_cases z : j = b
  · rw [if_pos z, z, pk_us]
  · rw [if_neg z, pk_un z]
    by_cases y : j = a
    · rw [if_pos y, iy_n, y]
    · rw [if_neg y]
theorem iy_h_s {had : Nat → Int32} {a b : Nat} {s : Int32} {q i : Nat} (hab : a ≠ b) (c : bt s i = true) (d : q ≤ ip_c s i) :
    upd (upd (iy_h had a b s q i) b (iy_h had a b s q i b ||| ((1 : Int32) <<< (nI i &&& 31)))) a (upd (iy_h had a b s q i) b (iy_h had a b s q i b ||| ((1 : Int32) <<< (nI i &&& 31))) a &&& (((1 : Int32) <<< (nI i &&& 31)) ^^^ (-1))) = iy_h had a b s q (i + 1) := by
  rw [pk_un hab, iy_h_b, iy_h_a hab, iy_m, ← ip_gt c d]
  funext j
  show _ = if j = b then ip_g s q (i + 1) else if j = a then s &&& (ip_g s q (i + 1) ^^^ (-1)) else had j
  by_cases z : j = b
  · rw [if_pos z, z, pk_un (Ne.symm hab), pk_us]
  · rw [if_neg z]
    by_cases y : j = a
    · rw [if_pos y, y, pk_us]
    · rw [if_neg y, pk_un y, pk_un z]
      show (if j = b then _ else if j = a then _ else had j) = _
      rw [if_neg z, if_neg y]
theorem iy_h_k {had : Nat → Int32} {a b : Nat} {s : Int32} {q i : Nat} (c : ¬ (bt s i = true ∧ q ≤ ip_c s i)) : iy_h had a b s q (i + 1) = iy_h had a b s q i := by
  unfold iy_h
  rw [ip_gf c]
theorem iy_tst {s : Int32} {q i : Nat} (hi : i < 32) : bt (s &&& (ip_g s q i ^^^ (-1))) i = bt s i := by
  have e : bt (ip_g s q i) i = false := by
    cases z : bt (ip_g s q i) i
    · rfl
    · exact absurd ((ip_g_bt s q hi i (by omega)).mp z).1 (Nat.lt_irrefl i)
  rw [b_and, b_xor, e, b_m1 i hi]
  cases bt s i <;> rfl
theorem iy_r0 {q c : Nat} (hq : q ≤ 32) (hc : c ≤ 32) : nI q - nI c ≤ 0 ↔ q ≤ c := by
  rw [Int32.le_iff_toInt_le, pk_sub_toInt (by omega) (by omega), Int32.toInt_zero]
  omega
theorem iy_r1 (q c : Nat) : nI q - nI c + (-1) = nI q - nI (c + 1) := by
  rw [← nI_1 c]
  grind
section
variable {th : Int32} {n : Nat} {tb had : Nat → Int32} {lo up : Nat → Int64}
theorem wy_is {post : Int32 → Prop} {p : Int32} (hT : ic_T th tb) (h : post (ic_b (ic_th th p))) : wpY_is post (nI n, tb, lo, up, had) p := by
  rcases pk_ix p (n := 16) (by decide) with z | z | ⟨x, hx, rfl⟩
  · rw [ic_bf (fun ⟨y, hy, e, _⟩ => ic_lt0 hy e z)] at h
    exact br_t z h
  · rw [ic_bf (fun ⟨y, hy, e, _⟩ => ic_ge hy (by decide) e z)] at h
    exact br_f (ic_0 (by decide) z) (br_t (ic_gt (b := 15) (by decide) z) h)
  · rw [ic_be (ic_th_n hx)] at h
    exact br_f (nI_pos (by omega)) (br_f (nI_nlt (a := 15) (b := x) (by omega) (by decide)) (And.intro (vp_in_nI hx (by decide)) (ic_c post (ic_tb hT hx) h)))
theorem wy_party {post : Int32 → Prop} {p : Int32} (hT : ic_T th tb) (h : post (ic_b (ic_pa th p))) : wpY_party post (nI n, tb, lo, up, had) p := by
  rcases pk_ix p (n := 8) (by decide) with z | z | ⟨x, hx, rfl⟩
  · rw [ic_bf (fun ⟨y, hy, e, _⟩ => ic_lt0 (by omega) e z)] at h
    exact br_t z h
  · rw [ic_bf (fun ⟨y, hy, e, _⟩ => ic_ge hy (by decide) e z)] at h
    exact br_f (ic_0 (by decide) z) (br_t (ic_gt (b := 7) (by decide) z) h)
  · rw [ic_be (ic_pa_n hx)] at h
    exact br_f (nI_pos (by omega)) (br_f (nI_nlt (a := 7) (b := x) (by omega) (by decide)) (And.intro (vp_in_nI (by omega) (by decide)) (ic_c post (ic_tb hT (by omega)) h)))
theorem wy_count_l {post : Int32 → Prop} {f : Int32} {s : Int32} (hp : post (nI (ip_c s 32))) : ∀ d i, i + d = 32 → wY_count_4 post s f tb lo up had (d + 1) (nI (ip_c s i)) (nI i)
  | 0, i, h => by
    have e : i = 32 := by omega
    subst e
    exact br_t (nI_le (a := 32) (b := 32) (Nat.le_refl _) (by decide)) hp
  | d + 1, i, h => by
    have hi : i < 32 := by omega
    refine br_f (nI_ge (b := 32) hi (by decide)) (nm_r (e' := nI (ip_c s (i + 1))) ?_ (nm_r (nI_1 i) (wy_count_l hp d (i + 1) (by omega))))
    rw [ib_s s hi, nI_add]; rfl
theorem wy_count {post : Int32 → Prop} {f : Int32} {s : Int32} (hp : post (nI (ip_c s 32))) : wpY_count post (f, tb, lo, up, had) s := Exists.intro 33 (wy_count_l hp 32 0 rfl)
theorem wy_follows {post : Int32 → Prop} {f : Int32} {x y : Nat} (hx : x < 16) (hy : y < 16) (hp : post (ic_b (ic_F lo up x y))) : wpY_follows post (f, tb, lo, up, had) (nI x) (nI y) := by
  have k : (lo x &&& (lo y ^^^ (-1)) = 0 ∧ up x &&& (up y ^^^ (-1)) = 0) ↔ ic_F lo up x y := kb_le (lo x) (up x) (lo y) (up y)
  refine And.intro (vp_in_nI hx (by decide)) (And.intro (vp_in_nI hy (by decide)) ?_)
  rw [nI_clamp (n := x) (by omega), nI_clamp (n := y) (by omega)]
  by_cases h1 : lo x &&& (lo y ^^^ (-1)) = 0
  · refine br_t h1 (And.intro (vp_in_nI hx (by decide)) (And.intro (vp_in_nI hy (by decide)) ?_))
    by_cases h2 : up x &&& (up y ^^^ (-1)) = 0
    · rw [ic_bt (k.mp ⟨h1, h2⟩)] at hp
      exact br_t h2 hp
    · rw [ic_bf (fun z => h2 (k.mpr z).2)] at hp
      exact br_f h2 hp
  · rw [ic_bf (fun z => h1 (k.mpr z).1)] at hp
    exact br_f h1 hp
/-! split -/
theorem wy_158 {post : Int32 → SY → Prop} {J : Int32 → Int32 → (Nat → Int32) → (Nat → Int64) → (Nat → Int64) → (Nat → Int32) → Prop} {a b q c i : Nat} {z0 : Int32} {f : Int32}
    (ha : a < 8) (hb : b < 8) (hq : q ≤ 32) (hc : c ≤ 32)
    (h1 : q ≤ c → J (nI q - nI (c + 1)) (nI (i + 1)) tb lo up (upd (upd had b z0) a (upd had b z0 a &&& (((1 : Int32) <<< (nI i &&& 31)) ^^^ (-1)))))
    (h2 : c < q → J (nI q - nI (c + 1)) (nI (i + 1)) tb lo up (upd had b z0)) :
    wY_split_158 post J (nI a) (nI b) (nI q - nI c) (nI i) z0 (nI b) f tb lo up had := by
  refine And.intro (vp_in_nI hb (by decide)) (nm_r (e' := upd had b z0) (by rw [nI_clamp (n := b) (by omega)]) (br_c (fun l => ?_) (fun l => ?_)))
  · rw [iy_r0 hq hc] at l
    refine And.intro (vp_in_nI ha (by decide)) (And.intro (vp_in_nI ha (by decide)) (nm_r (e' := upd (upd had b z0) a (upd had b z0 a &&& (((1 : Int32) <<< (nI i &&& 31)) ^^^ (-1)))) (by rw [nI_clamp (n := a) (by omega)]) (nm_r (iy_r1 q c) (nm_r (nI_1 i) (h1 l)))))
  · rw [iy_r0 hq hc] at l
    refine And.intro (vp_in_nI ha (by decide)) (And.intro (vp_in_nI ha (by decide)) (nm_r (e' := upd had b z0) (iy_us _ _) (nm_r (iy_r1 q c) (nm_r (nI_1 i) (h2 (by omega))))))
theorem wy_106_l {post : Int32 → SY → Prop} {a b q : Nat} {s f : Int32} (ha : a < 8) (hb : b < 8) (hab : a ≠ b) (hq : q ≤ 32) (hp : post (nI b) (f, tb, lo, up, iy_h had a b s q 32)) :
    ∀ d i, i + d = 32 → wY_split_106 post (nI a) (nI b) f (d + 1) (nI q - nI (ip_c s i)) (nI i) tb lo up (iy_h had a b s q i)
  | 0, i, h => by
    have e : i = 32 := by omega
    subst e
    exact br_t (nI_le (a := 32) (b := 32) (Nat.le_refl _) (by decide)) hp
  | d + 1, i, h => by
    have hi : i < 32 := by omega
    have Q := wy_106_l ha hb hab hq hp d (i + 1) (by omega)
    have bc := ip_le s i
    have ct : (((iy_h had a b s q i (nI a).toNatClampNeg) >>> (nI i &&& 31)) &&& 1) = 1 ↔ bt s i = true := by
      rw [nI_clamp (n := a) (by omega), iy_h_a hab, ib_s _ hi, iy_tst hi, ib_o]
    refine br_f (nI_ge (b := 32) hi (by decide)) (And.intro (vp_in_nI ha (by decide)) (br_c (fun z => ?_) (fun z => ?_)))
    · have z := ct.mp z
      refine br_c (fun l => And.intro (vp_in_nI hb (by decide)) ?_) (fun l => And.intro (vp_in_nI hb (by decide)) ?_)
      · rw [iy_r0 hq (by omega)] at l
        rw [nI_clamp (n := b) (by omega)]
        refine wy_158 ha hb hq (by omega) (fun _ => ?_) (fun y => absurd y (by omega))
        rw [iy_h_s hab z l, ← ip_t z]
        exact Q
      · rw [iy_r0 hq (by omega)] at l
        rw [nI_clamp (n := b) (by omega)]
        refine wy_158 ha hb hq (by omega) (fun y => absurd y l) (fun y => ?_)
        rw [iy_us, ← ip_t z, ← iy_h_k (fun w => l w.2)]
        exact Q
    · have z : ¬ bt s i = true := fun y => z (ct.mpr y)
      rw [iy_h_k (fun w => z w.1), ip_f z] at Q
      exact nm_r (nI_1 i) Q
theorem wy_44 {post : Int32 → SY → Prop} {f : Int32} {a b m : Nat} (ha : a < 8) (hb : b ≤ 8) (hab : a ≠ b) (h1 : 1 ≤ m) (hm : m ≤ 32)
    (h8 : b = 8 ∨ m < 2 → post (-2) (f, tb, lo, up, had))
    (hp : b < 8 → 2 ≤ m → post (nI b) (f, upd tb b 1, vp_updL lo b (lo a), vp_updL up b (up a), iy_h had a b (had a) (m - m / 2) 32)) :
    wY_split_44 post (nI a) (nI m) (nI b) f tb lo up had := by
  refine pk_eq b 8 (fun e => h8 (Or.inl e)) (fun ne => pk_eq m 1 (fun l => h8 (Or.inr (by omega))) (fun l => ?_))
  have b8 : b < 8 := by omega
  have Q := wy_106_l (a := a) (b := b) (q := m - m / 2) (s := had a) (had := had) ha b8 hab (by omega) (hp b8 (by omega)) 32 0 rfl
  have e0 : nI (m - m / 2) - nI (ip_c (had a) 0) = nI (m - m / 2) := pk_sub (Nat.zero_le _)
  rw [e0, ← iy_h_0 hab] at Q
  refine And.intro (vp_in_nI (by omega) (by decide)) (nm_r (e' := upd tb b 1) (by rw [nI_clamp (n := b) (by omega)]; rfl) ?_)
  refine And.intro (vp_in_nI (by omega) (by decide)) (And.intro (vp_in_nI (by omega) (by decide)) (nm_r (e' := vp_updL lo b (lo a)) (by rw [nI_clamp (n := b) (by omega), nI_clamp (n := a) (by omega)]) ?_))
  refine And.intro (vp_in_nI (by omega) (by decide)) (And.intro (vp_in_nI (by omega) (by decide)) (nm_r (e' := vp_updL up b (up a)) (by rw [nI_clamp (n := b) (by omega), nI_clamp (n := a) (by omega)]) ?_))
  exact And.intro (vp_in_nI b8 (by decide)) (nm_r (e' := upd had b 0) (by rw [nI_clamp (n := b) (by omega)]) (And.intro (by decide) (nm_r (ip_half hm) (Exists.intro 33 Q))))
theorem wy_23_l {post : Int32 → SY → Prop} {f : Int32} {b : Nat} {x1 x2 : Int32} (hT : ic_T th tb) (hb : b ≤ 8) (hc : ∀ c, c < b → bt th c = true) (hf : b < 8 → ¬ bt th b = true)
    (hp : wY_split_44 post x1 x2 (nI b) f tb lo up had) : ∀ d i, i + d = b → wY_split_23 post x1 x2 f tb lo up had (d + 1) (nI i)
  | 0, i, h => by
    have e : i = b := by omega
    subst e
    exact pk_le 8 i (fun _ => hp) (fun l => And.intro (vp_in_nI (by omega) (by decide)) (iy_t hT (by omega) (fun _ => hp) (fun z => absurd z (hf l))))
  | d + 1, i, h => br_f (nI_ge (b := 8) (by omega) (by decide)) (And.intro (vp_in_nI (by omega) (by decide)) (iy_t hT (by omega) (fun z => absurd (hc i (by omega)) z) (fun _ => nm_r (nI_1 i) (wy_23_l hT hb hc hf hp d (i + 1) (by omega)))))
theorem wy_split {post : Int32 → SY → Prop} {p : Int32} (hT : ic_T th tb) (hn : ¬ ic_pa th p → post (-1) (nI n, tb, lo, up, had))
    (hy : ∀ a, a < 8 → p = nI a → bt th a = true → 1 ≤ ip_c (had a) 32 ∧ ∃ b, b ≤ 8 ∧ (∀ c, c < b → bt th c = true) ∧ (b < 8 → ¬ bt th b = true) ∧
      (b = 8 ∨ ip_c (had a) 32 < 2 → post (-2) (nI n, tb, lo, up, had)) ∧
      (b < 8 → 2 ≤ ip_c (had a) 32 → post (nI b) (nI n, upd tb b 1, vp_updL lo b (lo a), vp_updL up b (up a), iy_h had a b (had a) (ip_c (had a) 32 - ip_c (had a) 32 / 2) 32))) :
    wpY_split post (nI n, tb, lo, up, had) p := by
  unfold wpY_split
  dsimp only
  refine wy_party hT (ic_br hn (fun z => ?_))
  obtain ⟨a, ha, e, ta⟩ := z
  subst e
  obtain ⟨h1, b, hb, hc, hf, h8, hp⟩ := hy a ha rfl ta
  have hab : a ≠ b := by
    intro z
    rw [z] at ta
    exact hf (by omega) ta
  refine And.intro (vp_in_nI ha (by decide)) ?_
  rw [nI_clamp (n := a) (by omega)]
  exact wy_count (Exists.intro (b + 1) (wy_23_l hT hb hc hf (wy_44 ha hb hab h1 (ip_le _ 32) h8 hp) b 0 (Nat.zero_add b)))
/-! event -/
theorem wy_event {post : Int32 → SY → Prop} {p : Int32} (hT : ic_T th tb) (hl : n ≤ 100) (hn : ¬ ic_pa th p → post (-1) (nI n, tb, lo, up, had))
    (hy : ∀ a, a < 8 → p = nI a → bt th a = true → (100 ≤ n → post (-2) (nI n, tb, lo, up, had)) ∧
      (n < 100 → ∀ lo' up' : Nat → Int64, (∀ x e, kb_b (lo' x) (up' x) e = if x = a then (kb_b (lo a) (up a) e || decide (e = n)) else kb_b (lo x) (up x) e) → post (nI (n + 1)) (nI (n + 1), tb, lo', up', had))) :
    wpY_event post (nI n, tb, lo, up, had) p := by
  unfold wpY_event
  dsimp only
  refine wy_party hT (ic_br hn (fun z => ?_))
  obtain ⟨a, ha, e, ta⟩ := z
  subst e
  obtain ⟨h1, h2⟩ := hy a ha rfl ta
  refine pk_lt n 100 (fun l => pk_le 64 n (fun m => ?_) (fun m => ?_)) (fun l => h1 l)
  · refine And.intro (vp_in_nI (by omega) (by decide)) (And.intro (vp_in_nI (by omega) (by decide)) (nm_r (e' := vp_updL up a (up a ||| ((1 : Int64) <<< ((nI n - 64).toInt64 &&& 63)))) (by rw [nI_clamp (n := a) (by omega)]) (nm_r (nI_1 n) (h2 l _ _ (fun x e => ?_)))))
    by_cases z : x = a
    · rw [if_pos z, z, pk_uLs, kb_evh _ _ m (by omega)]
    · rw [if_neg z, pk_uLn z]
  · refine And.intro (vp_in_nI (by omega) (by decide)) (And.intro (vp_in_nI (by omega) (by decide)) (nm_r (e' := vp_updL lo a (lo a ||| ((1 : Int64) <<< ((nI n).toInt64 &&& 63)))) (by rw [nI_clamp (n := a) (by omega)]) (nm_r (nI_1 n) (h2 l _ _ (fun x e => ?_)))))
    by_cases z : x = a
    · rw [if_pos z, z, pk_uLs, kb_evl _ _ m]
    · rw [if_neg z, pk_uLn z]
end
end
section
/-! the looking methods: both sides against one picture: th (who is there) and F (whose events are within whose) -/
def ih_F (H : Nat → Nat → Nat) (F : Nat → Nat → Prop) : Prop := ∀ x y, x < 16 → y < 16 → ((∀ i, i < 32 → H x i ≤ H y i) ↔ F x y)
noncomputable def ic_v (A B : Prop) : Int32 := @ite Int32 A (Classical.propDecidable A) (@ite Int32 B (Classical.propDecidable B) 0 1) (@ite Int32 B (Classical.propDecidable B) 2 3)
theorem ic_v_tt {A B : Prop} (a : A) (b : B) : ic_v A B = 0 := by unfold ic_v; rw [if_pos a, if_pos b]
theorem ic_v_tf {A B : Prop} (a : A) (b : ¬ B) : ic_v A B = 1 := by unfold ic_v; rw [if_pos a, if_neg b]
theorem ic_v_ft {A B : Prop} (a : ¬ A) (b : B) : ic_v A B = 2 := by unfold ic_v; rw [if_neg a, if_pos b]
theorem ic_v_ff {A B : Prop} (a : ¬ A) (b : ¬ B) : ic_v A B = 3 := by unfold ic_v; rw [if_neg a, if_neg b]
noncomputable def ic_w (th : Int32) (F : Nat → Nat → Prop) (x y : Nat) : Int32 := if bt th x = true ∧ bt th y = true then ic_v (F x y) (F y x) else -1
def ic_Q (th : Int32) (F : Nat → Nat → Prop) (x y : Nat) : Prop := bt th x = true ∧ bt th y = true ∧ F x y ∧ ¬ F y x
theorem ic_w_1 {th : Int32} {F : Nat → Nat → Prop} {x y : Nat} : ic_w th F x y = 1 ↔ ic_Q th F x y := by
  unfold ic_w ic_Q
  by_cases t : bt th x = true ∧ bt th y = true
  · rw [if_pos t]
    rcases Classical.em (F x y) with a | a <;> rcases Classical.em (F y x) with b | b
    · rw [ic_v_tt a b]; exact ⟨fun z => absurd z (by decide), fun z => absurd b z.2.2.2⟩
    · rw [ic_v_tf a b]; exact ⟨fun _ => ⟨t.1, t.2, a, b⟩, fun _ => rfl⟩
    · rw [ic_v_ft a b]; exact ⟨fun z => absurd z (by decide), fun z => absurd z.2.2.1 a⟩
    · rw [ic_v_ff a b]; exact ⟨fun z => absurd z (by decide), fun z => absurd z.2.2.1 a⟩
  · rw [if_neg t]; exact ⟨fun z => absurd z (by decide), fun z => absurd ⟨z.1, z.2.1⟩ t⟩
section
variable {th ct : Int32} {own : Nat → Int32} {H : Nat → Nat → Nat} {F : Nat → Nat → Prop}
theorem wx_uF {post : Int32 → Prop} {x y : Nat} (hH : ih_B H) (hF : ih_F H F) (hx : x < 16) (hy : y < 16) (hp : post (ic_b (F x y))) : wpX_under post (th, ct, own, ih_a H) (nI x) (nI y) := by
  rw [← ic_be (hF x y hx hy)] at hp
  exact wx_under hx hy hH hp
theorem wx_cmp {post : Int32 → Prop} {p q : Int32} (hH : ih_B H) (hF : ih_F H F) (hn : ¬ (ic_th th p ∧ ic_th th q) → post (-1))
    (hy : ∀ x y, x < 16 → y < 16 → p = nI x → q = nI y → bt th x = true → bt th y = true → post (ic_v (F x y) (F y x))) : wpX_compare post (th, ct, own, ih_a H) p q := by
  unfold wpX_compare
  dsimp only
  refine wx_there (ic_br (fun z => hn (fun w => z w.1)) (fun z => wx_there (ic_br (fun z' => hn (fun w => z' w.2)) (fun z' => ?_))))
  obtain ⟨x, hx, e, tx⟩ := z
  obtain ⟨y, hy', e', ty⟩ := z'
  have K := hy x y hx hy' e e' tx ty
  subst e e'
  exact wx_uF hH hF hx hy' (wx_uF hH hF hy' hx (ic_br
    (fun a => ic_br (fun b => by rw [ic_v_ff a b] at K; exact K) (fun b => by rw [ic_v_ft a b] at K; exact K))
    (fun a => ic_br (fun b => by rw [ic_v_tf a b] at K; exact K) (fun b => by rw [ic_v_tt a b] at K; exact K))))
theorem wx_cmpN {post : Int32 → Prop} {x y : Nat} (hH : ih_B H) (hF : ih_F H F) (hx : x < 16) (hy : y < 16) (hp : post (ic_w th F x y)) : wpX_compare post (th, ct, own, ih_a H) (nI x) (nI y) := by
  unfold ic_w at hp
  refine wx_cmp hH hF (fun z => ?_) (fun x' y' hx' hy' ex ey tx ty => ?_)
  · rw [if_neg (fun w => z ⟨(ic_th_n hx).mpr w.1, (ic_th_n hy).mpr w.2⟩)] at hp
    exact hp
  · have e1 := (nI_eq (by omega) (by omega)).mp ex
    have e2 := (nI_eq (by omega) (by omega)).mp ey
    subst e1 e2
    rw [if_pos ⟨tx, ty⟩] at hp
    exact hp
end
section
variable {th : Int32} {n : Nat} {tb had : Nat → Int32} {lo up : Nat → Int64}
theorem wy_cmp {post : Int32 → Prop} {p q : Int32} (hT : ic_T th tb) (hn : ¬ (ic_th th p ∧ ic_th th q) → post (-1))
    (hy : ∀ x y, x < 16 → y < 16 → p = nI x → q = nI y → bt th x = true → bt th y = true → post (ic_v (ic_F lo up x y) (ic_F lo up y x))) : wpY_compare post (nI n, tb, lo, up, had) p q := by
  unfold wpY_compare
  dsimp only
  refine wy_is hT (ic_br (fun z => hn (fun w => z w.1)) (fun z => wy_is hT (ic_br (fun z' => hn (fun w => z' w.2)) (fun z' => ?_))))
  obtain ⟨x, hx, e, tx⟩ := z
  obtain ⟨y, hy', e', ty⟩ := z'
  have K := hy x y hx hy' e e' tx ty
  subst e e'
  exact wy_follows hx hy' (wy_follows hy' hx (ic_br
    (fun a => ic_br (fun _ => ic_br (fun b => by rw [ic_v_ff a b] at K; exact K) (fun b => by rw [ic_v_ft a b] at K; exact K)) (fun z => absurd z a))
    (fun a => ic_br (fun b => ic_br (fun z => absurd a z) (fun _ => by rw [ic_v_tf a b] at K; exact K)) (fun b => by rw [ic_v_tt a b] at K; exact K))))
theorem wy_cmpN {post : Int32 → Prop} {x y : Nat} (hT : ic_T th tb) (hx : x < 16) (hy : y < 16) (hp : post (ic_w th (ic_F lo up) x y)) : wpY_compare post (nI n, tb, lo, up, had) (nI x) (nI y) := by
  unfold ic_w at hp
  refine wy_cmp hT (fun z => ?_) (fun x' y' hx' hy' ex ey tx ty => ?_)
  · rw [if_neg (fun w => z ⟨(ic_th_n hx).mpr w.1, (ic_th_n hy).mpr w.2⟩)] at hp
    exact hp
  · have e1 := (nI_eq (by omega) (by omega)).mp ex
    have e2 := (nI_eq (by omega) (by omega)).mp ey
    subst e1 e2
    rw [if_pos ⟨tx, ty⟩] at hp
    exact hp
end
/-! behind -/
noncomputable def ib_h (th : Int32) (F : Nat → Nat → Prop) (x : Nat) : Nat → Int32
  | 0 => 0
  | k + 1 => @ite Int32 (bt th k = true ∧ F k x) (Classical.propDecidable _) (ib_h th F x k ||| ((1 : Int32) <<< (nI k &&& 31))) (ib_h th F x k)
theorem ib_ht {th : Int32} {F : Nat → Nat → Prop} {x k : Nat} (a : bt th k = true) (b : F k x) : ib_h th F x (k + 1) = ib_h th F x k ||| ((1 : Int32) <<< (nI k &&& 31)) := if_pos ⟨a, b⟩
theorem ib_hf {th : Int32} {F : Nat → Nat → Prop} {x k : Nat} (a : ¬ (bt th k = true ∧ F k x)) : ib_h th F x (k + 1) = ib_h th F x k := if_neg a
section
variable {th ct : Int32} {own : Nat → Int32} {H : Nat → Nat → Nat} {F : Nat → Nat → Prop}
theorem wx_beh_l {post : Int32 → Prop} {x : Nat} (hH : ih_B H) (hF : ih_F H F) (hx : x < 16) (tx : bt th x = true) (hp : post (ib_h th F x 16)) :
    ∀ d y, y + d = 16 → wX_behind_4 post (nI x) th ct own (ih_a H) (d + 1) (ib_h th F x y) (nI y)
  | 0, y, h => by
    have e : y = 16 := by omega
    subst e
    exact br_t (nI_le (a := 16) (b := 16) (Nat.le_refl _) (by decide)) hp
  | d + 1, y, h => by
    have hy : y < 16 := by omega
    have Q := wx_beh_l hH hF hx tx hp d (y + 1) (by omega)
    refine br_f (nI_ge (b := 16) hy (by decide)) (wx_thereN hx (ic_br (fun z => absurd tx z) (fun _ => wx_thereN hy (ic_br (fun z => ?_) (fun ty => wx_uF hH hF hy hx (ic_br (fun z => ?_) (fun f => ?_)))))))
    · rw [ib_hf (fun w => z w.1)] at Q
      exact nm_r (ib_or0 _) (nm_r (nI_1 y) Q)
    · rw [ib_hf (fun w => z w.2)] at Q
      exact nm_r (ib_or0 _) (nm_r (nI_1 y) Q)
    · rw [ib_ht ty f] at Q
      exact nm_e (nm_r (nI_1 y) Q)
theorem wx_behind {post : Int32 → Prop} {p : Int32} (hH : ih_B H) (hF : ih_F H F) (hn : ¬ ic_th th p → post 0) (hy : ∀ x, x < 16 → p = nI x → bt th x = true → post (ib_h th F x 16)) :
    wpX_behind post (th, ct, own, ih_a H) p := by
  by_cases z : ic_th th p
  · obtain ⟨x, hx, e, tx⟩ := z
    have K := hy x hx e tx
    subst e
    exact Exists.intro 17 (wx_beh_l hH hF hx tx K 16 0 rfl)
  · exact Exists.intro 1 (br_f (by decide) (wx_there (ic_br hn (fun y => absurd y z))))
end
section
variable {th : Int32} {n : Nat} {tb had : Nat → Int32} {lo up : Nat → Int64}
theorem wy_beh_l {post : Int32 → Prop} {x : Nat} (hT : ic_T th tb) (hx : x < 16) (tx : bt th x = true) (hp : post (ib_h th (ic_F lo up) x 16)) :
    ∀ d y, y + d = 16 → wY_behind_4 post (nI x) (nI n) tb lo up had (d + 1) (ib_h th (ic_F lo up) x y) (nI y)
  | 0, y, h => by
    have e : y = 16 := by omega
    subst e
    exact br_t (nI_le (a := 16) (b := 16) (Nat.le_refl _) (by decide)) hp
  | d + 1, y, h => by
    have hy : y < 16 := by omega
    have Q := wy_beh_l hT hx tx hp d (y + 1) (by omega)
    refine br_f (nI_ge (b := 16) hy (by decide)) (wy_is hT (ic_br (fun z => absurd ((ic_th_n hx).mpr tx) z) (fun _ => And.intro (vp_in_nI hy (by decide)) (iy_t hT hy (fun z => ?_) (fun ty => wy_follows hy hx (ic_br (fun z => ?_) (fun f => ?_)))))))
    · rw [ib_hf (fun w => z w.1)] at Q
      exact nm_r (nI_1 y) Q
    · rw [ib_hf (fun w => z w.2)] at Q
      exact nm_r (nI_1 y) Q
    · rw [ib_ht ty f] at Q
      exact nm_e (nm_r (nI_1 y) Q)
theorem wy_behind {post : Int32 → Prop} {p : Int32} (hT : ic_T th tb) (hn : ¬ ic_th th p → post 0) (hy : ∀ x, x < 16 → p = nI x → bt th x = true → post (ib_h th (ic_F lo up) x 16)) :
    wpY_behind post (nI n, tb, lo, up, had) p := by
  by_cases z : ic_th th p
  · obtain ⟨x, hx, e, tx⟩ := z
    have K := hy x hx e tx
    subst e
    exact Exists.intro 17 (wy_beh_l hT hx tx K 16 0 rfl)
  · exact Exists.intro 1 (br_f (by decide) (wy_is hT (ic_br hn (fun y => absurd y z))))
end
/-! everywhere -/
def ic_E (th : Int32) (F : Nat → Nat → Prop) (m a : Nat) : Prop := ∀ c, c < a → bt th c = true → F (8 + m) c
def ic_ev (th : Int32) (F : Nat → Nat → Prop) (p : Int32) : Prop := ∃ m, m < 8 ∧ p = nI m ∧ bt th (8 + m) = true ∧ ic_E th F m 8
theorem ic_ev_n {th : Int32} {F : Nat → Nat → Prop} {m : Nat} (hm : m < 8) (t : bt th (8 + m) = true) : ic_ev th F (nI m) ↔ ic_E th F m 8 := by
  constructor
  · intro ⟨m', hm', e, _, z⟩
    have e1 := (nI_eq (by omega) (by omega)).mp e
    rw [e1]; exact z
  · intro z; exact ⟨m, hm, rfl, t, z⟩
theorem ic_ev_f {th : Int32} {F : Nat → Nat → Prop} {m : Nat} (hm : m < 8) (t : ¬ bt th (8 + m) = true) : ¬ ic_ev th F (nI m) := by
  intro ⟨m', hm', e, t', _⟩
  have e1 := (nI_eq (by omega) (by omega)).mp e
  rw [e1] at t
  exact t t'
theorem ix_8 (m : Nat) : (8 : Int32) + nI m = nI (8 + m) := nI_add 8 m
theorem wx_note {post : Int32 → Prop} {p : Int32} (hn : ¬ (∃ m, m < 8 ∧ p = nI m) → post 0) (hy : ∀ m, m < 8 → p = nI m → post 1) : wpX_isNote post p := by
  rcases pk_ix p (n := 8) (by decide) with z | z | ⟨x, hx, rfl⟩
  · exact br_t z (hn (fun ⟨y, hy, e⟩ => ic_lt0 (by omega) e z))
  · exact br_f (ic_0 (by decide) z) (br_t z (hn (fun ⟨y, hy, e⟩ => ic_ge hy (by decide) e z)))
  · exact br_f (nI_pos (by omega)) (br_f (nI_ge (b := 8) hx (by decide)) (hy x hx rfl))
section
variable {th ct : Int32} {own : Nat → Int32} {H : Nat → Nat → Nat} {F : Nat → Nat → Prop}
theorem wx_evw_l {post : Int32 → Prop} {m : Nat} (hH : ih_B H) (hF : ih_F H F) (hm : m < 8) (hp : post (ic_b (ic_E th F m 8))) :
    ∀ d a, a + d = 8 → ic_E th F m a → wX_everywhere_22 post (nI m) th ct own (ih_a H) (d + 1) (nI a)
  | 0, a, h, E => by
    have e : a = 8 := by omega
    subst e
    rw [ic_bt E] at hp
    exact br_t (nI_le (a := 8) (b := 8) (Nat.le_refl _) (by decide)) hp
  | d + 1, a, h, E => by
    have ha : a < 8 := by omega
    have Q := wx_evw_l hH hF hm hp d (a + 1) (by omega)
    refine br_f (nI_ge (b := 8) ha (by decide)) (wx_thereN (by omega) (ic_br (fun z => ?_) (fun t => ?_)))
    · exact nm_r (nI_1 a) (Q (lt_s E (fun w => absurd w z)))
    · rw [ix_8]
      refine wx_uF hH hF (by omega) (by omega) (ic_br (fun z => ?_) (fun f => ?_))
      · rw [ic_bf (fun w => z (w a ha t))] at hp
        exact hp
      · exact nm_r (nI_1 a) (Q (lt_s E (fun _ => f)))
theorem wx_everywhere {post : Int32 → Prop} {p : Int32} (hH : ih_B H) (hF : ih_F H F) (hp : post (ic_b (ic_ev th F p))) : wpX_everywhere post (th, ct, own, ih_a H) p := by
  unfold wpX_everywhere
  dsimp only
  refine wx_note (fun z => br_t rfl ?_) (fun m hm e => br_f (by decide) ?_)
  · rw [ic_bf (fun ⟨m, hm, e, _⟩ => z ⟨m, hm, e⟩)] at hp
    exact hp
  · subst e
    rw [ix_8]
    refine wx_thereN (by omega) (ic_br (fun z => ?_) (fun t => ?_))
    · rw [ic_bf (ic_ev_f hm z)] at hp
      exact hp
    · rw [ic_be (ic_ev_n hm t)] at hp
      exact Exists.intro 9 (wx_evw_l hH hF hm hp 8 0 rfl lt_0)
end
section
variable {th : Int32} {n : Nat} {tb had : Nat → Int32} {lo up : Nat → Int64}
theorem wy_evw_0 {post : Int32 → Prop} {x1 x3 f : Int32} {d : Nat} (hp : post 0) : wY_everywhere_30 post x1 f tb lo up had (d + 1) 0 x3 :=
  br_c (fun _ => And.intro rfl hp) (fun _ => br_t rfl (And.intro rfl hp))
theorem wy_evw_l {post : Int32 → Prop} {f : Int32} {m : Nat} (hT : ic_T th tb) (hm : m < 8) (hp : post (ic_b (ic_E th (ic_F lo up) m 8))) :
    ∀ d a, a + d = 8 → ic_E th (ic_F lo up) m a → wY_everywhere_30 post (nI m) f tb lo up had (d + 1) 1 (nI a)
  | 0, a, h, E => by
    have e : a = 8 := by omega
    subst e
    rw [ic_bt E] at hp
    exact br_t (nI_le (a := 8) (b := 8) (Nat.le_refl _) (by decide)) (And.intro rfl hp)
  | d + 1, a, h, E => by
    have ha : a < 8 := by omega
    have Q := wy_evw_l (f := f) hT hm hp d (a + 1) (by omega)
    refine br_f (nI_ge (b := 8) ha (by decide)) (br_f (by decide) (And.intro (vp_in_nI (by omega) (by decide)) (iy_t hT (by omega) (fun z => ?_) (fun t => ?_))))
    · exact nm_r (nI_1 a) (Q (lt_s E (fun w => absurd w z)))
    · rw [ix_8]
      refine wy_follows (by omega) (by omega) (ic_br (fun z => ?_) (fun g => ?_))
      · rw [ic_bf (fun w => z (w a ha t))] at hp
        exact nm_e (wy_evw_0 hp)
      · exact nm_r (nI_1 a) (Q (lt_s E (fun _ => g)))
theorem wy_everywhere {post : Int32 → Prop} {p : Int32} (hT : ic_T th tb) (hp : post (ic_b (ic_ev th (ic_F lo up) p))) : wpY_everywhere post (nI n, tb, lo, up, had) p := by
  unfold wpY_everywhere
  dsimp only
  rcases pk_ix p (n := 8) (by decide) with z | z | ⟨m, hm, rfl⟩
  · rw [ic_bf (fun ⟨y, hy, e, _⟩ => ic_lt0 (by omega) e z)] at hp
    exact br_t z (Exists.intro 1 (wy_evw_0 hp))
  · rw [ic_bf (fun ⟨y, hy, e, _⟩ => ic_ge hy (by decide) e z)] at hp
    exact br_f (ic_0 (by decide) z) (br_t (ic_gt (b := 7) (by decide) z) (Exists.intro 1 (wy_evw_0 hp)))
  · refine br_f (nI_pos (by omega)) (br_f (nI_nlt (a := 7) (b := m) (by omega) (by decide)) ?_)
    rw [ix_8]
    refine And.intro (vp_in_nI (by omega) (by decide)) (iy_t hT (by omega) (fun z => ?_) (fun t => ?_))
    · rw [ic_bf (ic_ev_f hm z)] at hp
      exact Exists.intro 1 (wy_evw_0 hp)
    · rw [ic_be (ic_ev_n hm t)] at hp
      exact Exists.intro 9 (wy_evw_l hT hm hp 8 0 rfl lt_0)
end
end
section
/-! newest -/
def ic_N (th : Int32) (F : Nat → Nat → Prop) (x y : Nat) (s : Int32) : Prop := ∀ i, i < 32 → (bt s i = true ↔ bt th i = true ∧ ¬ ∃ z, z < 16 ∧ (i < x ∨ i = x ∧ z < y) ∧ ic_Q th F i z)
theorem ic_N_t {th : Int32} {F : Nat → Nat → Prop} {x y : Nat} {s : Int32} (h : ic_N th F x y s) (hx : x < 16) (hy : y < 16) (q : ic_Q th F x y) :
    ic_N th F x (y + 1) (s &&& (((1 : Int32) <<< (nI x &&& 31)) ^^^ (-1))) := by
  intro i hi
  rw [ib_clr s (by omega) hi, Bool.and_eq_true, h i hi, Bool.not_eq_true', decide_eq_false_iff_not]
  constructor
  · intro ⟨⟨a, b⟩, c⟩
    refine ⟨a, fun ⟨z, hz, d, e⟩ => b ⟨z, hz, ?_, e⟩⟩
    rcases d with d | d
    · exact Or.inl d
    · exact absurd d.1 c
  · intro ⟨a, b⟩
    refine ⟨⟨a, fun ⟨z, hz, d, e⟩ => b ⟨z, hz, ?_, e⟩⟩, fun c => b ⟨y, hy, Or.inr ⟨c, Nat.lt_succ_self y⟩, ?_⟩⟩
    · rcases d with d | d
      · exact Or.inl d
      · exact Or.inr ⟨d.1, Nat.lt_succ_of_lt d.2⟩
    · rw [c]; exact q
theorem ic_N_f {th : Int32} {F : Nat → Nat → Prop} {x y : Nat} {s : Int32} (h : ic_N th F x y s) (q : ¬ ic_Q th F x y) : ic_N th F x (y + 1) s := by
  intro i hi
  rw [h i hi]
  constructor
  · intro ⟨a, b⟩
    refine ⟨a, fun ⟨z, hz, d, e⟩ => b ⟨z, hz, ?_, e⟩⟩
    rcases d with d | d
    · exact Or.inl d
    · refine Or.inr ⟨d.1, ?_⟩
      rcases Nat.lt_or_eq_of_le (Nat.le_of_lt_succ d.2) with l | l
      · exact l
      · rw [d.1, l] at e; exact absurd e q
  · intro ⟨a, b⟩
    refine ⟨a, fun ⟨z, hz, d, e⟩ => b ⟨z, hz, ?_, e⟩⟩
    rcases d with d | d
    · exact Or.inl d
    · exact Or.inr ⟨d.1, Nat.lt_succ_of_lt d.2⟩
theorem ic_N_x {th : Int32} {F : Nat → Nat → Prop} {x : Nat} {s : Int32} (h : ic_N th F x 16 s) : ic_N th F (x + 1) 0 s := by
  intro i hi
  rw [h i hi]
  constructor
  · intro ⟨a, b⟩
    refine ⟨a, fun ⟨z, hz, d, e⟩ => b ⟨z, hz, ?_, e⟩⟩
    rcases d with d | d
    · rcases Nat.lt_or_eq_of_le (Nat.le_of_lt_succ d) with l | l
      · exact Or.inl l
      · exact Or.inr ⟨l, hz⟩
    · exact absurd d.2 (Nat.not_lt_zero z)
  · intro ⟨a, b⟩
    refine ⟨a, fun ⟨z, hz, d, e⟩ => b ⟨z, hz, ?_, e⟩⟩
    rcases d with d | d
    · exact Or.inl (by omega)
    · exact Or.inl (by omega)
theorem ic_N_0 {th : Int32} {F : Nat → Nat → Prop} : ic_N th F 0 0 th := by
  intro i hi
  constructor
  · intro a
    refine ⟨a, fun ⟨z, hz, d, e⟩ => ?_⟩
    rcases d with d | d
    · exact absurd d (Nat.not_lt_zero i)
    · exact absurd d.2 (Nat.not_lt_zero z)
  · intro a; exact a.1
section
variable {th ct : Int32} {own : Nat → Int32} {H : Nat → Nat → Nat} {F : Nat → Nat → Prop}
theorem wx_new15_l {post : Int32 → Prop} {J : Int32 → Int32 → Prop} {x : Nat} (hH : ih_B H) (hF : ih_F H F) (hx : x < 16) (hJ : ∀ s, ic_N th F x 16 s → J s (nI (x + 1))) :
    ∀ d y s, y + d = 16 → ic_N th F x y s → wX_newest_15 post J (nI x) th ct own (ih_a H) (d + 1) s (nI y)
  | 0, y, s, h, I => by
    have e : y = 16 := by omega
    subst e
    exact br_t (nI_le (a := 16) (b := 16) (Nat.le_refl _) (by decide)) (nm_r (nI_1 x) (hJ s I))
  | d + 1, y, s, h, I => by
    have hy : y < 16 := by omega
    exact br_f (nI_ge (b := 16) hy (by decide)) (wx_cmpN hH hF hx hy (br_c
      (fun z => nm_e (nm_r (nI_1 y) (wx_new15_l hH hF hx hJ d (y + 1) _ (by omega) (ic_N_t I hx hy (ic_w_1.mp z)))))
      (fun z => nm_r (nI_1 y) (wx_new15_l hH hF hx hJ d (y + 1) s (by omega) (ic_N_f I (fun w => z (ic_w_1.mpr w)))))))
theorem wx_new7_l {post : Int32 → Prop} (hH : ih_B H) (hF : ih_F H F) (hp : ∀ s, ic_N th F 16 0 s → post s) :
    ∀ d x s, x + d = 16 → ic_N th F x 0 s → wX_newest_7 post th ct own (ih_a H) (d + 1) s (nI x)
  | 0, x, s, h, I => by
    have e : x = 16 := by omega
    subst e
    exact br_t (nI_le (a := 16) (b := 16) (Nat.le_refl _) (by decide)) (hp s I)
  | d + 1, x, s, h, I =>
    br_f (nI_ge (b := 16) (by omega) (by decide)) (Exists.intro 17 (wx_new15_l hH hF (by omega) (fun s' I' => wx_new7_l hH hF hp d (x + 1) s' (by omega) (ic_N_x I')) 16 0 s rfl I))
theorem wx_newest {post : Int32 → Prop} (hH : ih_B H) (hF : ih_F H F) (hp : ∀ s, ic_N th F 16 0 s → post s) : wpX_newest post (th, ct, own, ih_a H) :=
  Exists.intro 17 (wx_new7_l hH hF hp 16 0 th rfl ic_N_0)
end
def ic_P (th : Int32) (F : Nat → Nat → Prop) (x y : Nat) : Prop := bt th x = true ∧ ¬ ∃ z, z < y ∧ ic_Q th F x z
def ic_M (th : Int32) (F : Nat → Nat → Prop) (x : Nat) (s : Int32) : Prop := ∀ i, i < 32 → (bt s i = true ↔ i < x ∧ ic_P th F i 16)
theorem ic_M_t {th : Int32} {F : Nat → Nat → Prop} {x : Nat} {s : Int32} (h : ic_M th F x s) (hx : x < 16) (q : ic_P th F x 16) : ic_M th F (x + 1) (s ||| ((1 : Int32) <<< (nI x &&& 31))) := by
  intro i hi
  rw [ib_set s (by omega) hi, Bool.or_eq_true, h i hi, decide_eq_true_eq]
  constructor
  · intro z
    rcases z with z | z
    · exact ⟨by omega, z.2⟩
    · rw [z]; exact ⟨by omega, q⟩
  · intro ⟨a, b⟩
    by_cases e : i = x
    · exact Or.inr e
    · exact Or.inl ⟨by omega, b⟩
theorem ic_M_f {th : Int32} {F : Nat → Nat → Prop} {x : Nat} {s : Int32} (h : ic_M th F x s) (q : ¬ ic_P th F x 16) : ic_M th F (x + 1) s := by
  intro i hi
  rw [h i hi]
  constructor
  · intro ⟨a, b⟩; exact ⟨by omega, b⟩
  · intro ⟨a, b⟩
    refine ⟨?_, b⟩
    by_cases e : i = x
    · rw [e] at b; exact absurd b q
    · omega
theorem ic_M_0 {th : Int32} {F : Nat → Nat → Prop} : ic_M th F 0 0 := by
  intro i hi
  rw [b_0]
  exact ⟨fun z => absurd z (by decide), fun z => absurd z.1 (Nat.not_lt_zero i)⟩
theorem ic_MN {th : Int32} {tb : Nat → Int32} {F : Nat → Nat → Prop} {s s' : Int32} (hT : ic_T th tb) (h : ic_N th F 16 0 s) (h' : ic_M th F 16 s') : s' = s := by
  apply b_ext
  intro i hi
  rw [Bool.eq_iff_iff, h i hi, h' i hi]
  constructor
  · intro ⟨a, b, c⟩
    refine ⟨b, fun ⟨z, hz, d, e⟩ => c ⟨z, hz, e⟩⟩
  · intro ⟨a, b⟩
    have hx : i < 16 := by
      rcases Nat.lt_or_ge i 16 with l | l
      · exact l
      · rw [hT.2 i l hi] at a; exact absurd a (by decide)
    exact ⟨hx, a, fun ⟨z, hz, e⟩ => b ⟨z, hz, Or.inl hx, e⟩⟩
theorem ic_P_t {th : Int32} {F : Nat → Nat → Prop} {x y : Nat} (h : ic_P th F x y) (q : ¬ ic_Q th F x y) : ic_P th F x (y + 1) := by
  refine ⟨h.1, fun ⟨z, hz, e⟩ => ?_⟩
  rcases Nat.lt_or_eq_of_le (Nat.le_of_lt_succ hz) with l | l
  · exact h.2 ⟨z, l, e⟩
  · rw [l] at e; exact q e
theorem ic_P_f {th : Int32} {F : Nat → Nat → Prop} {x y : Nat} (h : ¬ ic_P th F x y) : ¬ ic_P th F x (y + 1) :=
  fun w => h ⟨w.1, fun ⟨z, hz, e⟩ => w.2 ⟨z, by omega, e⟩⟩
theorem ic_P_q {th : Int32} {F : Nat → Nat → Prop} {x y : Nat} (q : ic_Q th F x y) : ¬ ic_P th F x (y + 1) :=
  fun w => w.2 ⟨y, Nat.lt_succ_self y, q⟩
section
variable {th : Int32} {n : Nat} {tb had : Nat → Int32} {lo up : Nat → Int64}
theorem wy_new20_l {post : Int32 → Prop} {J : Int32 → Int32 → Prop} {x : Nat} {s f : Int32} (hT : ic_T th tb) (hx : x < 16)
    (h0 : ¬ ic_P th (ic_F lo up) x 16 → J s (nI (x + 1))) (h1 : ic_P th (ic_F lo up) x 16 → J (s ||| ((1 : Int32) <<< (nI x &&& 31))) (nI (x + 1))) :
    ∀ d y, y + d = 16 → wY_newest_20 post J s (nI x) f tb lo up had (d + 1) (ic_b (ic_P th (ic_F lo up) x y)) (nI y)
  | 0, y, h => by
    have e : y = 16 := by omega
    subst e
    exact br_t (nI_le (a := 16) (b := 16) (Nat.le_refl _) (by decide)) (ic_br (fun z => nm_r (nI_1 x) (h0 z)) (fun z => nm_e (nm_r (nI_1 x) (h1 z))))
  | d + 1, y, h => by
    have hy : y < 16 := by omega
    have Q := wy_new20_l (post := post) (f := f) hT hx h0 h1 d (y + 1) (by omega)
    refine br_f (nI_ge (b := 16) hy (by decide)) (ic_br (fun z => ?_) (fun p => And.intro (vp_in_nI hy (by decide)) (iy_t hT hy (fun z => ?_) (fun ty => wy_follows hx hy (ic_br (fun z => ?_) (fun a => wy_follows hy hx (ic_br (fun z => ?_) (fun b => ?_))))))))
    · rw [ic_bf (ic_P_f z)] at Q
      exact nm_r (nI_1 y) Q
    · rw [ic_bt (ic_P_t p (fun q => z q.2.1))] at Q
      exact nm_r (nI_1 y) Q
    · rw [ic_bt (ic_P_t p (fun q => z q.2.2.1))] at Q
      exact nm_r (nI_1 y) Q
    · rw [ic_bf (ic_P_q ⟨p.1, ty, a, z⟩)] at Q
      exact nm_r (nI_1 y) Q
    · rw [ic_bt (ic_P_t p (fun q => q.2.2.2 b))] at Q
      exact nm_r (nI_1 y) Q
theorem wy_new4_l {post : Int32 → Prop} {f : Int32} (hT : ic_T th tb) (hp : ∀ s, ic_M th (ic_F lo up) 16 s → post s) :
    ∀ d x s, x + d = 16 → ic_M th (ic_F lo up) x s → wY_newest_4 post f tb lo up had (d + 1) s (nI x)
  | 0, x, s, h, I => by
    have e : x = 16 := by omega
    subst e
    exact br_t (nI_le (a := 16) (b := 16) (Nat.le_refl _) (by decide)) (hp s I)
  | d + 1, x, s, h, I => by
    have hx : x < 16 := by omega
    have e : tb (nI x).toNatClampNeg = ic_b (ic_P th (ic_F lo up) x 0) := by
      rw [nI_clamp (by omega), hT.1 x hx]
      exact ic_be ⟨fun a => ⟨a, fun ⟨z, hz, _⟩ => absurd hz (Nat.not_lt_zero z)⟩, fun a => a.1⟩
    exact br_f (nI_ge (b := 16) hx (by decide)) (And.intro (vp_in_nI hx (by decide)) (nm_r e (Exists.intro 17 (wy_new20_l hT hx
      (fun z => wy_new4_l hT hp d (x + 1) s (by omega) (ic_M_f I z)) (fun z => wy_new4_l hT hp d (x + 1) _ (by omega) (ic_M_t I hx z)) 16 0 rfl))))
theorem wy_newest {post : Int32 → Prop} {f : Int32} (hT : ic_T th tb) (hp : ∀ s, ic_M th (ic_F lo up) 16 s → post s) : wpY_newest post (f, tb, lo, up, had) :=
  Exists.intro 17 (wy_new4_l hT hp 16 0 0 rfl ic_M_0)
end
/-! apartPairs -/
noncomputable def im_n (A : Nat → Prop) : Nat → Nat
  | 0 => 0
  | c + 1 => im_n A c + @ite Nat (A c) (Classical.propDecidable _) 1 0
theorem im_t {A : Nat → Prop} {c : Nat} (h : A c) : im_n A (c + 1) = im_n A c + 1 := by
  show im_n A c + @ite Nat (A c) (Classical.propDecidable _) 1 0 = _
  rw [if_pos h]
theorem im_f {A : Nat → Prop} {c : Nat} (h : ¬ A c) : im_n A (c + 1) = im_n A c := by
  show im_n A c + @ite Nat (A c) (Classical.propDecidable _) 1 0 = _
  rw [if_neg h]; rfl
theorem im_skip {A : Nat → Prop} {k : Nat} : ∀ d, (∀ c, k ≤ c → c < k + d → ¬ A c) → im_n A (k + d) = im_n A k
  | 0, _ => rfl
  | d + 1, h => by
    rw [← im_skip d (fun c h1 h2 => h c h1 (by omega))]
    exact im_f (h (k + d) (by omega) (by omega))
def im_A (th : Int32) (F : Nat → Nat → Prop) : Nat → Prop := fun c => c / 16 < c % 16 ∧ ic_w th F (c / 16) (c % 16) = 3
theorem im_Ae {th : Int32} {F : Nat → Nat → Prop} {x y : Nat} (hy : y < 16) (l : x < y) : im_A th F (x * 16 + y) ↔ ic_w th F x y = 3 := by
  unfold im_A
  rw [show (x * 16 + y) / 16 = x by omega, show (x * 16 + y) % 16 = y by omega]
  exact ⟨fun z => z.2, fun z => ⟨l, z⟩⟩
section
variable {th ct : Int32} {own : Nat → Int32} {H : Nat → Nat → Nat} {F : Nat → Nat → Prop}
theorem wx_ap14_l {post : Int32 → Prop} {J : Int32 → Int32 → Prop} {x : Nat} (hH : ih_B H) (hF : ih_F H F) (hx : x < 16) (hJ : J (nI (im_n (im_A th F) (x * 16 + 16))) (nI (x + 1))) :
    ∀ d y, y + d = 16 → x < y → wX_apartPairs_14 post J (nI x) th ct own (ih_a H) (d + 1) (nI (im_n (im_A th F) (x * 16 + y))) (nI y)
  | 0, y, h, l => by
    have e : y = 16 := by omega
    subst e
    exact br_t (nI_le (a := 16) (b := 16) (Nat.le_refl _) (by decide)) (nm_r (nI_1 x) hJ)
  | d + 1, y, h, l => by
    have hy : y < 16 := by omega
    have Q := wx_ap14_l (post := post) hH hF hx hJ d (y + 1) (by omega) (by omega)
    refine br_f (nI_ge (b := 16) hy (by decide)) (wx_cmpN hH hF hx hy (br_c (fun z => ?_) (fun z => ?_)))
    · have e : im_n (im_A th F) (x * 16 + (y + 1)) = im_n (im_A th F) (x * 16 + y) + 1 := im_t ((im_Ae hy l).mpr z)
      rw [e] at Q
      exact nm_r (nI_1 _) (nm_r (nI_1 y) Q)
    · have e : im_n (im_A th F) (x * 16 + (y + 1)) = im_n (im_A th F) (x * 16 + y) := im_f (fun w => z ((im_Ae hy l).mp w))
      rw [e] at Q
      exact nm_r (Int32.add_zero _) (nm_r (nI_1 y) Q)
theorem wx_ap4_l {post : Int32 → Prop} (hH : ih_B H) (hF : ih_F H F) (hp : post (nI (im_n (im_A th F) 256))) :
    ∀ d x, x + d = 16 → wX_apartPairs_4 post th ct own (ih_a H) (d + 1) (nI (im_n (im_A th F) (x * 16))) (nI x)
  | 0, x, h => by
    have e : x = 16 := by omega
    subst e
    exact br_t (nI_le (a := 16) (b := 16) (Nat.le_refl _) (by decide)) hp
  | d + 1, x, h => by
    have hx : x < 16 := by omega
    have Q := wx_ap4_l hH hF hp d (x + 1) (by omega)
    rw [show (x + 1) * 16 = x * 16 + 16 by omega] at Q
    have R := wx_ap14_l (post := post) (ct := ct) (own := own) hH hF hx Q (15 - x) (x + 1) (by omega) (by omega)
    have e : im_n (im_A th F) (x * 16 + (x + 1)) = im_n (im_A th F) (x * 16) := by
      refine im_skip (x + 1) (fun c h1 h2 w => ?_)
      have := w.1
      omega
    rw [e] at R
    exact br_f (nI_ge (b := 16) hx (by decide)) (nm_r (nI_1 x) (Exists.intro (15 - x + 1) R))
theorem wx_apart {post : Int32 → Prop} (hH : ih_B H) (hF : ih_F H F) (hp : post (nI (im_n (im_A th F) 256))) : wpX_apartPairs post (th, ct, own, ih_a H) :=
  Exists.intro 17 (wx_ap4_l hH hF hp 16 0 rfl)
end
section
variable {th : Int32} {n : Nat} {tb had : Nat → Int32} {lo up : Nat → Int64}
theorem wy_ap4_l {post : Int32 → Prop} (hT : ic_T th tb) (hp : post (nI (im_n (im_A th (ic_F lo up)) 256))) :
    ∀ d c, c + d = 256 → wY_apartPairs_4 post (nI n) tb lo up had (d + 1) (nI (im_n (im_A th (ic_F lo up)) c)) (nI c)
  | 0, c, h => by
    have e : c = 256 := by omega
    subst e
    exact br_t (nI_le (a := 256) (b := 256) (Nat.le_refl _) (by decide)) hp
  | d + 1, c, h => by
    have hc : c < 256 := by omega
    have Q := wy_ap4_l hT hp d (c + 1) (by omega)
    have e1 : nI c / 16 = nI (c / 16) := pk_div (d := 16) (by omega) (by decide) (by decide)
    have e2 : nI c - nI c / 16 * 16 = nI (c % 16) := pk_rem (d := 16) (by omega) (by decide) (by decide)
    refine br_f (nI_ge (b := 256) hc (by decide)) (And.intro (by decide) (And.intro (by decide) (pk_le (c % 16) (c / 16) (fun l => ?_) (fun l => And.intro (by decide) (And.intro (by decide) ?_)) e2 e1 (by omega) (by omega))))
    · rw [im_f (fun w => absurd w.1 (by omega))] at Q
      exact nm_r (nI_1 c) Q
    · rw [e2, e1]
      refine wy_cmpN hT (by omega) (by omega) (br_c (fun z => ?_) (fun z => ?_))
      · rw [im_t ⟨l, z⟩] at Q
        exact nm_r (nI_1 _) (nm_r (nI_1 c) Q)
      · rw [im_f (fun w => z w.2)] at Q
        exact nm_r (nI_1 c) Q
theorem wy_apart {post : Int32 → Prop} (hT : ic_T th tb) (hp : post (nI (im_n (im_A th (ic_F lo up)) 256))) : wpY_apartPairs post (nI n, tb, lo, up, had) :=
  Exists.intro 257 (wy_ap4_l hT hp 256 0 rfl)
end
/-! slots -/
def is_s (th : Int32) (f : Nat) : Nat → Int32
  | 0 => 0
  | k + 1 => if bt th (f + k) = true then is_s th f k ||| ((1 : Int32) <<< (nI k &&& 31)) else is_s th f k
theorem is_t {th : Int32} {f k : Nat} (h : bt th (f + k) = true) : is_s th f (k + 1) = is_s th f k ||| ((1 : Int32) <<< (nI k &&& 31)) := if_pos h
theorem is_f {th : Int32} {f k : Nat} (h : ¬ bt th (f + k) = true) : is_s th f (k + 1) = is_s th f k := if_neg h
theorem is_bt {th : Int32} {f i : Nat} (hi : i < 32) : ∀ k, k ≤ 8 → bt (is_s th f k) i = (decide (i < k) && bt th (f + i))
  | 0, _ => by
    show bt 0 i = _
    rw [b_0, decide_eq_false (Nat.not_lt_zero i), Bool.false_and]
  | k + 1, h => by
    have q := is_bt (th := th) (f := f) hi k (by omega)
    by_cases t : bt th (f + k) = true
    · rw [is_t t, ib_set _ (by omega) hi, q]
      by_cases e : i = k
      · rw [e, t, decide_eq_true rfl, decide_eq_true (Nat.lt_succ_self k), Bool.or_true]; rfl
      · rw [decide_eq_false e, Bool.or_false]
        by_cases l : i < k
        · rw [decide_eq_true l, decide_eq_true (Nat.lt_succ_of_lt l)]
        · rw [decide_eq_false l, decide_eq_false (by omega)]
    · rw [is_f t, q]
      by_cases e : i = k
      · rw [Bool.not_eq_true] at t
        rw [e, t, Bool.and_false, Bool.and_false]
      · by_cases l : i < k
        · rw [decide_eq_true l, decide_eq_true (Nat.lt_succ_of_lt l)]
        · rw [decide_eq_false l, decide_eq_false (by omega)]
section
variable {th : Int32} {n : Nat} {tb had : Nat → Int32} {lo up : Nat → Int64}
theorem wy_slots_l {post : Int32 → Prop} {f : Nat} {g : Int32} (hT : ic_T th tb) (hf : f ≤ 8) (hp : post (is_s th f 8)) : ∀ d i, i + d = 8 → wY_slots_4 post (nI f) g tb lo up had (d + 1) (is_s th f i) (nI i)
  | 0, i, h => by
    have e : i = 8 := by omega
    subst e
    exact br_t (nI_le (a := 8) (b := 8) (Nat.le_refl _) (by decide)) hp
  | d + 1, i, h => by
    have hi : i < 8 := by omega
    have Q := wy_slots_l (g := g) hT hf hp d (i + 1) (by omega)
    refine br_f (nI_ge (b := 8) hi (by decide)) ?_
    rw [nI_add]
    refine And.intro (vp_in_nI (by omega) (by decide)) (iy_t hT (by omega) (fun z => ?_) (fun t => ?_))
    · rw [is_f z] at Q
      exact nm_r (nI_1 i) Q
    · rw [is_t t] at Q
      exact nm_e (nm_r (nI_1 i) Q)
theorem wy_slots {post : Int32 → Prop} {f : Nat} {g : Int32} (hT : ic_T th tb) (hf : f ≤ 8) (hp : post (is_s th f 8)) : wpY_slots post (g, tb, lo, up, had) (nI f) :=
  Exists.intro 9 (wy_slots_l hT hf hp 8 0 rfl)
theorem is_par : is_s th 0 8 = th &&& 255 := by
  apply b_ext
  intro i hi
  rw [is_bt hi 8 (Nat.le_refl _), b_and, b_255, Nat.zero_add, Bool.and_comm]
theorem is_not (hT : ic_T th tb) : is_s th 8 8 = th >>> ((8 : Int32) &&& 31) := by
  apply b_ext
  intro i hi
  rw [is_bt hi 8 (Nat.le_refl _), b_sshr8 th hi]
  by_cases l : i < 8
  · rw [decide_eq_true l, if_pos (by omega), Bool.true_and]
  · rw [decide_eq_false l, Bool.false_and]
    by_cases m : 8 + i < 32
    · rw [if_pos m, hT.2 (8 + i) (by omega) m]
    · rw [if_neg m, hT.2 31 (by omega) (by omega)]
end
end
section
/-! join, tell, note, erase, cells: both sides -/
section
variable {th ct : Int32} {own : Nat → Int32} {H : Nat → Nat → Nat}
theorem wx_join {post : Int32 → SX → Prop} {p q : Int32} (hH : ih_B H) (hn : ¬ (ic_pa th p ∧ ic_pa th q ∧ ¬ p = q) → post (-1) (th, ct, own, ih_a H))
    (hy : ∀ a b, a < 8 → b < 8 → a ≠ b → p = nI a → q = nI b → bt th a = true → bt th b = true →
      post (nI (ip_c (own a ||| own b) 32)) (th &&& (((1 : Int32) <<< (nI b &&& 31)) ^^^ (-1)), ct, upd (upd own a (own a ||| own b)) b 0, ih_a (ih_r1 H a b))) :
    wpX_join post (th, ct, own, ih_a H) p q := by
  unfold wpX_join
  dsimp only
  refine wx_party (ic_br (fun z => hn (fun w => z w.1)) (fun za => wx_party (ic_br (fun z => hn (fun w => z w.2.1)) (fun zb => br_c (fun z => hn (fun w => w.2.2 z)) (fun z => ?_)))))
  obtain ⟨a, ha, e, ta⟩ := za
  obtain ⟨b, hb, e', tb⟩ := zb
  have hab : a ≠ b := fun w => z (by rw [e, e', w])
  have K := hy a b ha hb hab e e' ta tb
  subst e e'
  have e1 : upd (upd own a (own a ||| own b)) b 0 a = own a ||| own b := by rw [pk_un hab, pk_us]
  refine wx_raise (by omega) (by omega) hH ?_
  dsimp only
  rw [nI_clamp (n := a) (by omega), nI_clamp (n := b) (by omega)]
  refine And.intro (vp_in_nI ha (by decide)) (And.intro (vp_in_nI hb (by decide)) (And.intro (vp_in_nI ha (by decide)) (nm_e (And.intro (vp_in_nI hb (by decide)) (nm_e (nm_e (And.intro (vp_in_nI ha (by decide)) ?_)))))))
  rw [e1]
  exact wx_ones K
theorem wx_tell {post : Int32 → SX → Prop} {p q : Int32} (hH : ih_B H) (hn : ¬ (ic_th th p ∧ ic_pa th q ∧ ¬ p = q) → post (-1) (th, ct, own, ih_a H))
    (hy : ∀ x b, x < 16 → b < 8 → x ≠ b → p = nI x → q = nI b → bt th x = true → bt th b = true →
      post (ic_b (∃ k, k < 32 ∧ H b k < H x k)) (th, ct, own, ih_a (ih_r1 H b x))) :
    wpX_tell post (th, ct, own, ih_a H) p q := by
  unfold wpX_tell
  dsimp only
  refine wx_there (ic_br (fun z => hn (fun w => z w.1)) (fun za => wx_party (ic_br (fun z => hn (fun w => z w.2.1)) (fun zb => br_c (fun z => hn (fun w => w.2.2 z)) (fun z => ?_)))))
  obtain ⟨x, hx, e, tx⟩ := za
  obtain ⟨b, hb, e', tb⟩ := zb
  have hab : x ≠ b := fun w => z (by rw [e, e', w])
  have K := hy x b hx hb hab e e' tx tb
  subst e e'
  refine wx_raise (by omega) (by omega) hH ?_
  exact ic_br (fun w => by rw [ic_bf w] at K; exact K) (fun w => by rw [ic_bt w] at K; exact K)
theorem wx_mnote {post : Int32 → SX → Prop} {p q : Int32} (hH : ih_B H) (hn : ¬ (ic_pa th p ∧ ∃ m, m < 8 ∧ q = nI m) → post 0 (th, ct, own, ih_a H))
    (hy : ∀ a m, a < 8 → m < 8 → p = nI a → q = nI m → bt th a = true →
      post 1 (th ||| ((1 : Int32) <<< (nI (8 + m) &&& 31)), ct, own, ih_a (ih_c1 H a (8 + m)))) :
    wpX_note post (th, ct, own, ih_a H) p q := by
  unfold wpX_note
  dsimp only
  refine wx_party (ic_br (fun z => hn (fun w => z w.1)) (fun za => wx_note (fun z => br_t rfl (hn (fun w => z w.2))) (fun m hm e' => br_f (by decide) ?_)))
  obtain ⟨a, ha, e, ta⟩ := za
  have K := hy a m ha hm e e' ta
  subst e e'
  rw [ix_8]
  exact wx_copy (by omega) (by omega) hH (nm_e K)
theorem wx_erase {post : Int32 → SX → Prop} {p : Int32} (hn : ¬ (∃ m, m < 8 ∧ p = nI m ∧ bt th (8 + m) = true) → post 0 (th, ct, own, ih_a H))
    (hy : ∀ m, m < 8 → p = nI m → bt th (8 + m) = true → post 1 (th &&& (((1 : Int32) <<< (nI (8 + m) &&& 31)) ^^^ (-1)), ct, own, ih_a H)) :
    wpX_erase post (th, ct, own, ih_a H) p := by
  unfold wpX_erase
  dsimp only
  refine wx_note (fun z => br_t rfl (hn (fun ⟨m, hm, e, _⟩ => z ⟨m, hm, e⟩))) (fun m hm e => br_f (by decide) ?_)
  have K := hy m hm e
  subst e
  rw [ix_8]
  refine wx_thereN (by omega) (ic_br (fun z => hn (fun ⟨m', hm', e, t⟩ => ?_)) (fun z => nm_e (K z)))
  have e1 := (nI_eq (by omega) (by omega)).mp e
  rw [e1] at z
  exact z t
theorem wx_cells {post : Int32 → Prop} {p : Int32} (hn : ¬ ic_pa th p → post (-1)) (hy : ∀ a, a < 8 → p = nI a → bt th a = true → post (nI (ip_c (own a) 32))) :
    wpX_cells post (th, ct, own, ih_a H) p := by
  unfold wpX_cells
  dsimp only
  refine wx_party (ic_br hn (fun z => ?_))
  obtain ⟨a, ha, e, ta⟩ := z
  have K := hy a ha e ta
  subst e
  rw [nI_clamp (n := a) (by omega)]
  exact And.intro (vp_in_nI ha (by decide)) (wx_ones K)
end
section
variable {th : Int32} {n : Nat} {tb had : Nat → Int32} {lo up : Nat → Int64}
theorem wy_join {post : Int32 → SY → Prop} {p q : Int32} (hT : ic_T th tb) (hn : ¬ (ic_pa th p ∧ ic_pa th q ∧ ¬ p = q) → post (-1) (nI n, tb, lo, up, had))
    (hy : ∀ a b, a < 8 → b < 8 → a ≠ b → p = nI a → q = nI b → bt th a = true → bt th b = true →
      post (nI (ip_c (had a ||| had b) 32)) (nI n, upd tb b 0, vp_updL lo a (lo a ||| lo b), vp_updL up a (up a ||| up b), upd had a (had a ||| had b))) :
    wpY_join post (nI n, tb, lo, up, had) p q := by
  unfold wpY_join
  dsimp only
  refine br_c (fun z => hn (fun w => w.2.2 z)) (fun z => wy_party hT (ic_br (fun z => hn (fun w => z w.1)) (fun za => wy_party hT (ic_br (fun z => hn (fun w => z w.2.1)) (fun zb => ?_)))))
  obtain ⟨a, ha, e, ta⟩ := za
  obtain ⟨b, hb, e', tb'⟩ := zb
  have hab : a ≠ b := fun w => z (by rw [e, e', w])
  have K := hy a b ha hb hab e e' ta tb'
  subst e e'
  rw [nI_clamp (n := a) (by omega), nI_clamp (n := b) (by omega)]
  have ia : vp_in (nI a) 16 := vp_in_nI (by omega) (by decide)
  have ib : vp_in (nI b) 16 := vp_in_nI (by omega) (by decide)
  have ja : vp_in (nI a) 8 := vp_in_nI ha (by decide)
  have jb : vp_in (nI b) 8 := vp_in_nI hb (by decide)
  refine And.intro ia (And.intro ib (And.intro ia (nm_e (And.intro ia (And.intro ib (And.intro ia (nm_e (And.intro ja (And.intro jb (And.intro ja (nm_e (And.intro ib (nm_r (e' := upd tb b 0) rfl (And.intro ja ?_))))))))))))))
  rw [pk_us]
  exact wy_count K
theorem wy_tell {post : Int32 → SY → Prop} {p q : Int32} (hT : ic_T th tb) (hn : ¬ (ic_th th p ∧ ic_pa th q ∧ ¬ p = q) → post (-1) (nI n, tb, lo, up, had))
    (hy : ∀ x b, x < 16 → b < 8 → x ≠ b → p = nI x → q = nI b → bt th x = true → bt th b = true →
      post (ic_b (¬ ic_F lo up x b)) (nI n, tb, vp_updL lo b (lo b ||| lo x), vp_updL up b (up b ||| up x), had)) :
    wpY_tell post (nI n, tb, lo, up, had) p q := by
  unfold wpY_tell
  dsimp only
  refine br_c (fun z => hn (fun w => w.2.2 z)) (fun z => wy_is hT (ic_br (fun z => hn (fun w => z w.1)) (fun za => wy_party hT (ic_br (fun z => hn (fun w => z w.2.1)) (fun zb => ?_)))))
  obtain ⟨x, hx, e, tx⟩ := za
  obtain ⟨b, hb, e', tb'⟩ := zb
  have hab : x ≠ b := fun w => z (by rw [e, e', w])
  have K := hy x b hx hb hab e e' tx tb'
  subst e e'
  have ix : vp_in (nI x) 16 := vp_in_nI hx (by decide)
  have ib : vp_in (nI b) 16 := vp_in_nI (by omega) (by decide)
  refine wy_follows hx (by omega) ?_
  rw [nI_clamp (n := x) (by omega), nI_clamp (n := b) (by omega)]
  exact And.intro ib (And.intro ix (And.intro ib (nm_e (And.intro ib (And.intro ix (And.intro ib (nm_e (ic_br (fun w => by rw [ic_bt w] at K; exact K) (fun w => by rw [ic_bf (fun y => y w)] at K; exact K)))))))))
theorem wy_mnote {post : Int32 → SY → Prop} {p q : Int32} (hT : ic_T th tb) (hn : ¬ (ic_pa th p ∧ ∃ m, m < 8 ∧ q = nI m) → post 0 (nI n, tb, lo, up, had))
    (hy : ∀ a m, a < 8 → m < 8 → p = nI a → q = nI m → bt th a = true →
      post 1 (nI n, upd tb (8 + m) 1, vp_updL lo (8 + m) (lo a), vp_updL up (8 + m) (up a), had)) :
    wpY_note post (nI n, tb, lo, up, had) p q := by
  unfold wpY_note
  dsimp only
  refine wy_party hT (ic_br (fun z => hn (fun w => z w.1)) (fun za => ?_))
  rcases pk_ix q (n := 8) (by decide) with z | z | ⟨m, hm, rfl⟩
  · exact br_t z (hn (fun ⟨_, y, hy, e⟩ => ic_lt0 (by omega) e z))
  · refine br_f (ic_0 (by decide) z) (br_f (fun w => ?_) (hn (fun ⟨_, y, hy, e⟩ => ic_ge hy (by decide) e z)))
    have a1 := Int32.le_iff_toInt_le.mp z
    have a2 := Int32.le_iff_toInt_le.mp w
    rw [nI_toInt (by decide)] at a1
    rw [show (7 : Int32).toInt = 7 by decide] at a2
    omega
  · obtain ⟨a, ha, e, ta⟩ := za
    have K := hy a m ha hm e rfl ta
    subst e
    refine br_f (nI_pos (by omega)) (br_t (nI_le (a := m) (b := 7) (by omega) (by decide)) ?_)
    rw [ix_8, nI_clamp (n := 8 + m) (by omega), nI_clamp (n := a) (by omega)]
    have ia : vp_in (nI a) 16 := vp_in_nI (by omega) (by decide)
    have im : vp_in (nI (8 + m)) 16 := vp_in_nI (by omega) (by decide)
    exact And.intro im (nm_r (e' := upd tb (8 + m) 1) rfl (And.intro ia (And.intro im (nm_e (And.intro ia (And.intro im (nm_e K)))))))
theorem wy_erase {post : Int32 → SY → Prop} {p : Int32} (hT : ic_T th tb) (hn : ¬ (∃ m, m < 8 ∧ p = nI m ∧ bt th (8 + m) = true) → post 0 (nI n, tb, lo, up, had))
    (hy : ∀ m, m < 8 → p = nI m → bt th (8 + m) = true → post 1 (nI n, upd tb (8 + m) 0, lo, up, had)) :
    wpY_erase post (nI n, tb, lo, up, had) p := by
  unfold wpY_erase
  dsimp only
  rcases pk_ix p (n := 8) (by decide) with z | z | ⟨m, hm, rfl⟩
  · exact br_t z (hn (fun ⟨y, hy, e, _⟩ => ic_lt0 (by omega) e z))
  · exact br_f (ic_0 (by decide) z) (br_t (ic_gt (b := 7) (by decide) z) (hn (fun ⟨y, hy, e, _⟩ => ic_ge hy (by decide) e z)))
  · have K := hy m hm rfl
    refine br_f (nI_pos (by omega)) (br_f (nI_nlt (a := 7) (b := m) (by omega) (by decide)) ?_)
    rw [ix_8]
    have im : vp_in (nI (8 + m)) 16 := vp_in_nI (by omega) (by decide)
    refine And.intro im (iy_t hT (by omega) (fun z => hn (fun ⟨m', hm', e, t⟩ => ?_)) (fun z => And.intro im (nm_r (e' := upd tb (8 + m) 0) ?_ (K z))))
    · have e1 := (nI_eq (by omega) (by omega)).mp e
      rw [e1] at z
      exact z t
    · rw [nI_clamp (n := 8 + m) (by omega)]; rfl
theorem wy_cells {post : Int32 → Prop} {p : Int32} (hT : ic_T th tb) (hn : ¬ ic_pa th p → post (-1)) (hy : ∀ a, a < 8 → p = nI a → bt th a = true → post (nI (ip_c (had a) 32))) :
    wpY_cells post (nI n, tb, lo, up, had) p := by
  unfold wpY_cells
  dsimp only
  refine wy_party hT (ic_br hn (fun z => ?_))
  obtain ⟨a, ha, e, ta⟩ := z
  have K := hy a ha e ta
  subst e
  rw [nI_clamp (n := a) (by omega)]
  exact And.intro (vp_in_nI ha (by decide)) (wy_count K)
end
end
section
/-! the relation, and what each call does to it, in plain terms -/
def ic_O (th : Int32) (own had : Nat → Int32) : Prop :=
  (∀ a, a < 8 → bt th a = true → had a = own a ∧ ∃ i, i < 32 ∧ bt (own a) i = true) ∧
  (∀ a, a < 8 → ¬ bt th a = true → own a = 0) ∧
  (∀ a b i, a < 8 → b < 8 → i < 32 → bt (own a) i = true → bt (own b) i = true → a = b)
def ic_K (n : Nat) (own : Nat → Int32) (H : Nat → Nat → Nat) (K : Nat → Nat → Bool) : Prop :=
  ∃ (S : Nat → Nat → Prop) (h : Nat → Nat), kg_G n S h ∧ (∀ x, x < 16 → kg_I n S h (fun e => K x e = true) (H x)) ∧
    (∀ a e i, a < 8 → i < 32 → e < n → bt (own a) i = true → S e i → K a e = true)
theorem ic_K_le {n : Nat} {own : Nat → Int32} {H : Nat → Nat → Nat} {K : Nat → Nat → Bool} (h : ic_K n own H K) : ih_F H (fun x y => ∀ e, K x e = true → K y e = true) := by
  obtain ⟨S, g, G, I, W⟩ := h
  exact fun x y hx hy => kg_le G (I x hx) (I y hy)
theorem ic_K_bd {n : Nat} {own : Nat → Int32} {H : Nat → Nat → Nat} {K : Nat → Nat → Bool} (h : ic_K n own H K) {x i : Nat} (hx : x < 16) (hi : i < 32) : H x i ≤ n := by
  obtain ⟨S, g, G, I, W⟩ := h
  exact kg_bd G (I x hx) hi
theorem ic_K_B {n : Nat} {own : Nat → Int32} {H : Nat → Nat → Nat} {K : Nat → Nat → Bool} (h : ic_K n own H K) (hn : n ≤ 100) : ih_B H :=
  fun x i hx hi => Nat.le_trans (ic_K_bd h hx hi) hn
theorem ic_K_cp {n : Nat} {own own' : Nat → Int32} {H : Nat → Nat → Nat} {K K' : Nat → Nat → Bool} {f t : Nat} (h : ic_K n own H K) (hf : f < 16)
    (hK : ∀ x e, K' x e = if x = t then K f e else K x e)
    (ho : ∀ c i, c < 8 → i < 32 → bt (own' c) i = true → (c ≠ t ∧ bt (own c) i = true) ∨ (c = t ∧ f < 8 ∧ bt (own f) i = true)) : ic_K n own' (ih_c1 H f t) K' := by
  obtain ⟨S, g, G, I, W⟩ := h
  refine ⟨S, g, G, fun x hx => ?_, fun a e i ha hi he hb hs => ?_⟩
  · by_cases z : x = t
    · refine kg_eq (I f hf) (fun e => ?_) (fun i => ?_)
      · show K f e = true ↔ K' x e = true
        rw [hK, if_pos z]
      · show H f i = (if x = t then H f else H x) i
        rw [if_pos z]
    · refine kg_eq (I x hx) (fun e => ?_) (fun i => ?_)
      · show K x e = true ↔ K' x e = true
        rw [hK, if_neg z]
      · show H x i = (if x = t then H f else H x) i
        rw [if_neg z]
  · rw [hK]
    rcases ho a i ha hi hb with ⟨z, b⟩ | ⟨z, hf8, b⟩
    · rw [if_neg z]; exact W a e i ha hi he b hs
    · rw [if_pos z]; exact W f e i hf8 hi he b hs
theorem ic_K_un {n : Nat} {own own' : Nat → Int32} {H : Nat → Nat → Nat} {K K' : Nat → Nat → Bool} {f t : Nat} (h : ic_K n own H K) (ht : t < 16) (hf : f < 16)
    (hK : ∀ x e, K' x e = if x = t then (K t e || K f e) else K x e)
    (ho : ∀ c i, c < 8 → i < 32 → bt (own' c) i = true → bt (own c) i = true ∨ (c = t ∧ f < 8 ∧ bt (own f) i = true)) : ic_K n own' (ih_r1 H t f) K' := by
  obtain ⟨S, g, G, I, W⟩ := h
  refine ⟨S, g, G, fun x hx => ?_, fun a e i ha hi he hb hs => ?_⟩
  · by_cases z : x = t
    · refine kg_eq (kg_un (I t ht) (I f hf)) (fun e => ?_) (fun i => ?_)
      · show (K t e = true ∨ K f e = true) ↔ K' x e = true
        rw [hK, if_pos z, Bool.or_eq_true]
      · show max (H t i) (H f i) = (if x = t then fun k => max (H t k) (H f k) else H x) i
        rw [if_pos z]
    · refine kg_eq (I x hx) (fun e => ?_) (fun i => ?_)
      · show K x e = true ↔ K' x e = true
        rw [hK, if_neg z]
      · show H x i = (if x = t then fun k => max (H t k) (H f k) else H x) i
        rw [if_neg z]
  · rw [hK]
    rcases ho a i ha hi hb with b | ⟨z, hf8, b⟩
    · have w := W a e i ha hi he b hs
      by_cases z : a = t
      · rw [if_pos z, ← z, w, Bool.true_or]
      · rw [if_neg z]; exact w
    · rw [if_pos z, W f e i hf8 hi he b hs, Bool.or_true]
theorem ic_K_ev {n : Nat} {own : Nat → Int32} {H : Nat → Nat → Nat} {K K' : Nat → Nat → Bool} {a t : Nat} (h : ic_K n own H K) (ha : a < 8)
    (hO : ∃ i, i < 32 ∧ bt (own a) i = true) (hd : ∀ a b i, a < 8 → b < 8 → i < 32 → bt (own a) i = true → bt (own b) i = true → a = b)
    (htn : t ≤ n) (ht : ∀ i, i < 32 → bt (own a) i = true → H a i ≤ t)
    (hK : ∀ x e, K' x e = if x = a then (K a e || decide (e = n)) else K x e) : ic_K (n + 1) own (ih_e1 H a (bt (own a)) t) K' := by
  obtain ⟨S, g, G, I, W⟩ := h
  refine ⟨kg_S n S (bt (own a)), kg_h n g t, kg_evG G hO htn ?_, fun x hx => ?_, fun b e i hb hi he hbt hs => ?_⟩
  · intro e i he hi hs ho
    exact Nat.le_trans ((I a (by omega)).2.1 e i hi (W a e i ha hi he ho hs) hs) (ht i hi ho)
  · by_cases z : x = a
    · refine kg_eq (kg_evS (I a (by omega)) (fun e i he hi ho hs => W a e i ha hi he ho hs) ht) (fun e => ?_) (fun i => ?_)
      · show (K a e = true ∨ e = n) ↔ K' x e = true
        rw [hK, if_pos z, Bool.or_eq_true, decide_eq_true_eq]
      · show (if bt (own a) i = true then t + 1 else H a i) = (if x = a then fun i => if bt (own a) i = true then t + 1 else H a i else H x) i
        rw [if_pos z]
    · refine kg_eq (kg_evO (I x hx)) (fun e => ?_) (fun i => ?_)
      · show K x e = true ↔ K' x e = true
        rw [hK, if_neg z]
      · show H x i = (if x = a then fun i => if bt (own a) i = true then t + 1 else H a i else H x) i
        rw [if_neg z]
  · rw [hK]
    rcases Nat.lt_or_eq_of_le (Nat.le_of_lt_succ he) with l | l
    · have w := W b e i hb hi l hbt ((kg_Sn l).mp hs)
      by_cases z : b = a
      · rw [if_pos z, ← z, w, Bool.true_or]
      · rw [if_neg z]; exact w
    · rw [l] at hs
      have z := hd b a i hb ha hi hbt (kg_Se.mp hs)
      rw [if_pos z, decide_eq_true l, Bool.or_true]
/-! who is there -/
theorem ic_T_set {th : Int32} {tb : Nat → Int32} {x : Nat} (hT : ic_T th tb) (hx : x < 16) : ic_T (th ||| ((1 : Int32) <<< (nI x &&& 31))) (upd tb x 1) := by
  refine ⟨fun y hy => ?_, fun i h1 h2 => ?_⟩
  · rw [ib_set th (by omega) (by omega)]
    by_cases z : y = x
    · rw [z, pk_us, decide_eq_true rfl, Bool.or_true, ic_bt rfl]
    · rw [pk_un z, hT.1 y hy, decide_eq_false z, Bool.or_false]
  · rw [ib_set th (by omega) h2, hT.2 i h1 h2, decide_eq_false (by omega)]; rfl
theorem ic_T_clr {th : Int32} {tb : Nat → Int32} {x : Nat} (hT : ic_T th tb) (hx : x < 16) : ic_T (th &&& (((1 : Int32) <<< (nI x &&& 31)) ^^^ (-1))) (upd tb x 0) := by
  refine ⟨fun y hy => ?_, fun i h1 h2 => ?_⟩
  · rw [ib_clr th (by omega) (by omega)]
    by_cases z : y = x
    · rw [z, pk_us, decide_eq_true rfl, Bool.not_true, Bool.and_false, ic_bf (by decide)]
    · rw [pk_un z, hT.1 y hy, decide_eq_false z, Bool.not_false, Bool.and_true]
  · rw [ib_clr th (by omega) h2, hT.2 i h1 h2, Bool.false_and]
/-! whose cells -/
theorem ic_O_note {th th' : Int32} {own had : Nat → Int32} (h : ic_O th own had) (e : ∀ a, a < 8 → bt th' a = bt th a) : ic_O th' own had := by
  obtain ⟨h1, h2, h3⟩ := h
  refine ⟨fun a ha t => h1 a ha ?_, fun a ha t => h2 a ha ?_, h3⟩
  · rw [← e a ha]; exact t
  · rw [← e a ha]; exact t
theorem ic_O_join {th : Int32} {own had : Nat → Int32} {a b : Nat} (h : ic_O th own had) (ha : a < 8) (hb : b < 8) (hab : a ≠ b) (ta : bt th a = true) (tb : bt th b = true) :
    ic_O (th &&& (((1 : Int32) <<< (nI b &&& 31)) ^^^ (-1))) (upd (upd own a (own a ||| own b)) b 0) (upd had a (had a ||| had b)) := by
  obtain ⟨h1, h2, h3⟩ := h
  have ba : b ≠ a := Ne.symm hab
  refine ⟨fun c hc t => ?_, fun c hc t => ?_, fun c d i hc hd hi p q => ?_⟩
  · rw [ib_clr th (by omega) (by omega), Bool.and_eq_true, Bool.not_eq_true', decide_eq_false_iff_not] at t
    by_cases z : c = a
    · rw [z, pk_us, pk_un hab, pk_us, (h1 a ha ta).1, (h1 b hb tb).1]
      obtain ⟨i, hi, w⟩ := (h1 a ha ta).2
      refine ⟨rfl, i, hi, ?_⟩
      rw [b_or, w, Bool.true_or]
    · rw [pk_un z, pk_un t.2, pk_un z]
      exact h1 c hc t.1
  · rw [ib_clr th (by omega) (by omega), Bool.and_eq_true, Bool.not_eq_true', decide_eq_false_iff_not] at t
    by_cases z : c = b
    · rw [z, pk_us]
    · have y : c ≠ a := fun w => t ⟨by rw [w]; exact ta, z⟩
      rw [pk_un z, pk_un y]
      exact h2 c hc (fun w => t ⟨w, z⟩)
  · have key : ∀ c, c < 8 → bt (upd (upd own a (own a ||| own b)) b 0 c) i = true → c ≠ b ∧ (bt (own c) i = true ∨ c = a ∧ bt (own b) i = true) := by
      intro c hc p
      by_cases z : c = b
      · rw [z, pk_us, b_0] at p; exact absurd p (by decide)
      · refine ⟨z, ?_⟩
        rw [pk_un z] at p
        by_cases y : c = a
        · rw [y, pk_us, b_or, Bool.or_eq_true] at p
          rcases p with p | p
          · rw [y]; exact Or.inl p
          · exact Or.inr ⟨y, p⟩
        · rw [pk_un y] at p; exact Or.inl p
    obtain ⟨c1, c2⟩ := key c hc p
    obtain ⟨d1, d2⟩ := key d hd q
    rcases c2 with c2 | c2 <;> rcases d2 with d2 | d2
    · exact h3 c d i hc hd hi c2 d2
    · exact absurd (h3 c b i hc hb hi c2 d2.2) c1
    · exact absurd (h3 d b i hd hb hi d2 c2.2) d1
    · rw [c2.1, d2.1]
theorem ip_o_a {own : Nat → Int32} {a b : Nat} {g : Int32} : ip_o own a b g a = own a &&& (g ^^^ (-1)) := if_pos rfl
theorem ip_o_b {own : Nat → Int32} {a b : Nat} {g : Int32} (h : b ≠ a) : ip_o own a b g b = g := by unfold ip_o; rw [if_neg h, if_pos rfl]
theorem ip_o_n {own : Nat → Int32} {a b c : Nat} {g : Int32} (h : c ≠ a) (k : c ≠ b) : ip_o own a b g c = own c := by unfold ip_o; rw [if_neg h, if_neg k]
theorem iy_h_n {had : Nat → Int32} {a b c : Nat} {s : Int32} {q i : Nat} (h : c ≠ a) (k : c ≠ b) : iy_h had a b s q i c = had c := by unfold iy_h; rw [if_neg k, if_neg h]
/-- which cells a split leaves, which it gives -/
theorem ip_o_k {own : Nat → Int32} {a b q c i : Nat} (hab : a ≠ b) (hi : i < 32) (p : bt (ip_o own a b (ip_g (own a) q 32) c) i = true) :
    (c = a ∧ bt (own a) i = true ∧ ¬ q ≤ ip_c (own a) i) ∨ (c = b ∧ bt (own a) i = true ∧ q ≤ ip_c (own a) i) ∨ (c ≠ a ∧ c ≠ b ∧ bt (own c) i = true) := by
  have w := ip_g_bt (own a) q hi 32 (Nat.le_refl _)
  by_cases z : c = a
  · rw [z, ip_o_a, b_and, b_xor, b_m1 i hi, Bool.xor_true, Bool.and_eq_true, Bool.not_eq_true'] at p
    refine Or.inl ⟨z, p.1, fun y => ?_⟩
    have := w.mpr ⟨hi, p.1, y⟩
    rw [this] at p
    exact absurd p.2 (by decide)
  · by_cases y : c = b
    · rw [y, ip_o_b (Ne.symm hab)] at p
      exact Or.inr (Or.inl ⟨y, (w.mp p).2⟩)
    · rw [ip_o_n z y] at p
      exact Or.inr (Or.inr ⟨z, y, p⟩)
theorem ic_O_split {th : Int32} {own had : Nat → Int32} {a b q : Nat} (h : ic_O th own had) (ha : a < 8) (hb : b < 8) (ta : bt th a = true) (tb : ¬ bt th b = true)
    (q0 : 0 < q) (q1 : q < ip_c (own a) 32) :
    ic_O (th ||| ((1 : Int32) <<< (nI b &&& 31))) (ip_o own a b (ip_g (own a) q 32)) (iy_h had a b (own a) q 32) := by
  obtain ⟨h1, h2, h3⟩ := h
  have hab : a ≠ b := fun z => tb (by rw [← z]; exact ta)
  refine ⟨fun c hc t => ?_, fun c hc t => ?_, fun c d i hc hd hi p p' => ?_⟩
  · by_cases z : c = a
    · rw [z, ip_o_a, iy_h_a hab]
      obtain ⟨i, hi, w, v⟩ := ip_nth (own a) 0 32 (by omega)
      refine ⟨rfl, i, hi, ?_⟩
      have g0 : bt (ip_g (own a) q 32) i = false := by
        cases y : bt (ip_g (own a) q 32) i
        · rfl
        · have := ((ip_g_bt (own a) q hi 32 (Nat.le_refl _)).mp y).2.2
          omega
      rw [b_and, b_xor, b_m1 i hi, w, g0]; rfl
    · by_cases y : c = b
      · rw [y, ip_o_b (Ne.symm hab), iy_h_b]
        obtain ⟨i, hi, w, v⟩ := ip_nth (own a) q 32 q1
        exact ⟨rfl, i, hi, (ip_g_bt (own a) q hi 32 (Nat.le_refl _)).mpr ⟨hi, w, by omega⟩⟩
      · rw [ip_o_n z y, iy_h_n z y]
        rw [ib_set th (by omega) (by omega), decide_eq_false y, Bool.or_false] at t
        exact h1 c hc t
  · rw [ib_set th (by omega) (by omega), Bool.or_eq_true, decide_eq_true_eq] at t
    have y : c ≠ b := fun w => t (Or.inr w)
    have z : c ≠ a := fun w => t (Or.inl (by rw [w]; exact ta))
    rw [ip_o_n z y]
    exact h2 c hc (fun w => t (Or.inl w))
  · rcases ip_o_k hab hi p with ⟨c1, c2, c3⟩ | ⟨c1, c2, c3⟩ | ⟨c1, c2, c3⟩ <;> rcases ip_o_k hab hi p' with ⟨d1, d2, d3⟩ | ⟨d1, d2, d3⟩ | ⟨d1, d2, d3⟩
    · rw [c1, d1]
    · exact absurd d3 c3
    · exact absurd (h3 d a i hd ha hi d3 c2) d1
    · exact absurd c3 d3
    · rw [c1, d1]
    · exact absurd (h3 d a i hd ha hi d3 c2) d1
    · exact absurd (h3 c a i hc ha hi c3 d2) c1
    · exact absurd (h3 c a i hc ha hi c3 d2) c1
    · exact h3 c d i hc hd hi c3 d3
/-- the first that is free -/
theorem ip_free (th : Int32) : ∃ b, b ≤ 8 ∧ (∀ c, c < b → bt th c = true) ∧ (b < 8 → ¬ bt th b = true) := by
  have key : ∀ d i, i + d = 8 → (∀ c, c < i → bt th c = true) → ∃ b, b ≤ 8 ∧ (∀ c, c < b → bt th c = true) ∧ (b < 8 → ¬ bt th b = true) := by
    intro d
    induction d with
    | zero => intro i h hc; exact ⟨i, by omega, hc, fun z => absurd z (by omega)⟩
    | succ d ih =>
      intro i h hc
      by_cases t : bt th i = true
      · exact ih (i + 1) (by omega) (lt_s hc t)
      · exact ⟨i, by omega, hc, fun _ => t⟩
  exact key 8 0 rfl lt_0
/-! longs of one holder written anew -/
theorem kb_up (lo up : Nat → Int64) (t : Nat) (l g : Int64) (x e : Nat) : kb_b (vp_updL lo t l x) (vp_updL up t g x) e = if x = t then kb_b l g e else kb_b (lo x) (up x) e := by
  by_cases z : x = t
  · rw [if_pos z, z, pk_uLs, pk_uLs]
  · rw [if_neg z, pk_uLn z, pk_uLn z]
/-- THE RELATION -/
def ic_R (th : Int32) (n : Nat) (own : Nat → Int32) (H : Nat → Nat → Nat) (tb had : Nat → Int32) (lo up : Nat → Int64) : Prop :=
  n ≤ 100 ∧ ic_T th tb ∧ ic_O th own had ∧ ic_K n own H (fun x e => kb_b (lo x) (up x) e)
theorem ic_R_F {th : Int32} {n : Nat} {own : Nat → Int32} {H : Nat → Nat → Nat} {tb had : Nat → Int32} {lo up : Nat → Int64} (R : ic_R th n own H tb had lo up) : ih_F H (ic_F lo up) :=
  fun x y hx hy => ic_K_le R.2.2.2 x y hx hy
theorem ic_R_B {th : Int32} {n : Nat} {own : Nat → Int32} {H : Nat → Nat → Nat} {tb had : Nat → Int32} {lo up : Nat → Int64} (R : ic_R th n own H tb had lo up) : ih_B H :=
  ic_K_B R.2.2.2 R.1
theorem ic_R_split {th : Int32} {n : Nat} {own : Nat → Int32} {H : Nat → Nat → Nat} {tb had : Nat → Int32} {lo up : Nat → Int64} (R : ic_R th n own H tb had lo up)
    {a b : Nat} (ha : a < 8) (hb : b < 8) (ta : bt th a = true) (nb : ¬ bt th b = true) (h2 : 2 ≤ ip_c (own a) 32) :
    ic_R (th ||| ((1 : Int32) <<< (nI b &&& 31))) n (ip_o own a b (ip_g (own a) (ip_c (own a) 32 - ip_c (own a) 32 / 2) 32)) (ih_c1 H a b) (upd tb b 1)
      (iy_h had a b (own a) (ip_c (own a) 32 - ip_c (own a) 32 / 2) 32) (vp_updL lo b (lo a)) (vp_updL up b (up a)) := by
  obtain ⟨h1, hT, hO, hK⟩ := R
  have hab : a ≠ b := fun z => nb (by rw [← z]; exact ta)
  refine ⟨h1, ic_T_set hT (by omega), ic_O_split hO ha hb ta nb (by omega) (by omega), ic_K_cp hK (by omega) (fun x e => kb_up lo up b (lo a) (up a) x e) (fun c i hc hi p => ?_)⟩
  rcases ip_o_k hab hi p with ⟨c1, c2, _⟩ | ⟨c1, c2, _⟩ | ⟨c1, c2, c3⟩
  · rw [c1]; exact Or.inl ⟨hab, c2⟩
  · exact Or.inr ⟨c1, ha, c2⟩
  · exact Or.inl ⟨c2, c3⟩
theorem ic_R_join {th : Int32} {n : Nat} {own : Nat → Int32} {H : Nat → Nat → Nat} {tb had : Nat → Int32} {lo up : Nat → Int64} (R : ic_R th n own H tb had lo up)
    {a b : Nat} (ha : a < 8) (hb : b < 8) (hab : a ≠ b) (ta : bt th a = true) (t2 : bt th b = true) :
    ic_R (th &&& (((1 : Int32) <<< (nI b &&& 31)) ^^^ (-1))) n (upd (upd own a (own a ||| own b)) b 0) (ih_r1 H a b) (upd tb b 0)
      (upd had a (had a ||| had b)) (vp_updL lo a (lo a ||| lo b)) (vp_updL up a (up a ||| up b)) := by
  obtain ⟨h1, hT, hO, hK⟩ := R
  refine ⟨h1, ic_T_clr hT (by omega), ic_O_join hO ha hb hab ta t2, ic_K_un hK (by omega) (by omega) (fun x e => ?_) (fun c i hc hi p => ?_)⟩
  · rw [kb_up, kb_or]
  · by_cases z : c = b
    · rw [z, pk_us, b_0] at p; exact absurd p (by decide)
    · rw [pk_un z] at p
      by_cases y : c = a
      · rw [y, pk_us, b_or, Bool.or_eq_true] at p
        rcases p with p | p
        · rw [y]; exact Or.inl p
        · exact Or.inr ⟨y, hb, p⟩
      · rw [pk_un y] at p; exact Or.inl p
theorem ic_R_tell {th : Int32} {n : Nat} {own : Nat → Int32} {H : Nat → Nat → Nat} {tb had : Nat → Int32} {lo up : Nat → Int64} (R : ic_R th n own H tb had lo up)
    {x b : Nat} (hx : x < 16) (hb : b < 8) : ic_R th n own (ih_r1 H b x) tb had (vp_updL lo b (lo b ||| lo x)) (vp_updL up b (up b ||| up x)) := by
  obtain ⟨h1, hT, hO, hK⟩ := R
  refine ⟨h1, hT, hO, ic_K_un hK (by omega) hx (fun x e => ?_) (fun c i hc hi p => Or.inl p)⟩
  rw [kb_up, kb_or]
theorem ic_R_note {th : Int32} {n : Nat} {own : Nat → Int32} {H : Nat → Nat → Nat} {tb had : Nat → Int32} {lo up : Nat → Int64} (R : ic_R th n own H tb had lo up)
    {a m : Nat} (ha : a < 8) (hm : m < 8) : ic_R (th ||| ((1 : Int32) <<< (nI (8 + m) &&& 31))) n own (ih_c1 H a (8 + m)) (upd tb (8 + m) 1) had (vp_updL lo (8 + m) (lo a)) (vp_updL up (8 + m) (up a)) := by
  obtain ⟨h1, hT, hO, hK⟩ := R
  refine ⟨h1, ic_T_set hT (by omega), ic_O_note hO (fun c hc => ?_), ic_K_cp hK (by omega) (fun x e => kb_up lo up (8 + m) (lo a) (up a) x e) (fun c i hc hi p => Or.inl ⟨by omega, p⟩)⟩
  rw [ib_set th (by omega) (by omega), decide_eq_false (by omega), Bool.or_false]
theorem ic_R_erase {th : Int32} {n : Nat} {own : Nat → Int32} {H : Nat → Nat → Nat} {tb had : Nat → Int32} {lo up : Nat → Int64} (R : ic_R th n own H tb had lo up)
    {m : Nat} (hm : m < 8) : ic_R (th &&& (((1 : Int32) <<< (nI (8 + m) &&& 31)) ^^^ (-1))) n own H (upd tb (8 + m) 0) had lo up := by
  obtain ⟨h1, hT, hO, hK⟩ := R
  refine ⟨h1, ic_T_clr hT (by omega), ic_O_note hO (fun c hc => ?_), hK⟩
  rw [ib_clr th (by omega) (by omega), decide_eq_false (by omega), Bool.not_false, Bool.and_true]
theorem ic_R_event {th : Int32} {n : Nat} {own : Nat → Int32} {H : Nat → Nat → Nat} {tb had : Nat → Int32} {lo up lo' up' : Nat → Int64} (R : ic_R th n own H tb had lo up)
    {a : Nat} (ha : a < 8) (ta : bt th a = true) (hn : n < 100)
    (hK' : ∀ x e, kb_b (lo' x) (up' x) e = if x = a then (kb_b (lo a) (up a) e || decide (e = n)) else kb_b (lo x) (up x) e) :
    ic_R th (n + 1) own (ih_e1 H a (bt (own a)) (it_p (H a) (bt (own a)) 32)) tb had lo' up' := by
  obtain ⟨h1, hT, hO, hK⟩ := R
  exact ⟨by omega, hT, hO, ic_K_ev hK ha (hO.1 a ha ta).2 hO.2.2 (it_le (fun k hk => ic_K_bd hK (by omega) hk) 32 (Nat.le_refl _)) (fun i hi o => it_ge 32 i hi o) hK'⟩
theorem ic_R_0 : ic_R 1 0 (upd (fun _ => 0) 0 (-1)) (fun _ _ => 0) (upd (fun _ => 0) 0 1) (upd (fun _ => 0) 0 (-1)) (fun _ => 0) (fun _ => 0) := by
  have o1 : ∀ c, c < 32 → (bt 1 c = true ↔ c = 0) := fun c hc => by rw [ib_one c hc, decide_eq_true_eq]
  refine ⟨by decide, ⟨fun x hx => ?_, fun i h1 h2 => ?_⟩, ⟨fun a ha t => ?_, fun a ha t => ?_, fun a b i ha hb hi p q => ?_⟩, ?_⟩
  · rw [ic_be (o1 x (by omega))]
    by_cases z : x = 0
    · rw [z, pk_us, ic_bt rfl]
    · rw [pk_un z, ic_bf z]
  · rw [ib_one i h2, decide_eq_false (by omega)]
  · have z := (o1 a (by omega)).mp t
    rw [z, pk_us]
    exact ⟨rfl, 0, by decide, b_m1 0 (by decide)⟩
  · have z : ¬ a = 0 := fun w => t ((o1 a (by omega)).mpr w)
    rw [pk_un z]
  · have key : ∀ a : Nat, bt (upd (fun _ => 0) 0 (-1) a) i = true → a = 0 := by
      intro a p
      by_cases z : a = 0
      · exact z
      · rw [pk_un z, b_0] at p; exact absurd p (by decide)
    rw [key a p, key b q]
  · refine ⟨fun _ _ => False, fun _ => 0, ⟨fun e he => absurd he (Nat.not_lt_zero e), fun e f i _ hf => absurd hf (Nat.not_lt_zero f)⟩, fun x hx => ⟨fun e k => ?_, fun e i hi k s => s.elim, fun i hi => Or.inl rfl, fun f e i hi l k s => s.elim⟩, fun a e i ha hi he => absurd he (Nat.not_lt_zero e)⟩
    have k' : kb_b 0 0 e = true := k
    rw [kb_0] at k'
    exact absurd k' (by decide)
end
section
/-- the relation at the head of a turn whose first cell is k -/
def i_Rel (k : Nat) (u : SX) (v : SY) : Prop := ∃ (th : Int32) (n : Nat) (own : Nat → Int32) (H : Nat → Nat → Nat) (tb had : Nat → Int32) (lo up : Nat → Int64),
  u = (th, nI n, own, ih_a H) ∧ v = (nI n, tb, lo, up, had) ∧ ic_R th n own H tb had lo up
theorem ic_mk {k : Nat} {th : Int32} {n : Nat} {own : Nat → Int32} {H : Nat → Nat → Nat} {tb had : Nat → Int32} {lo up : Nat → Int64} (R : ic_R th n own H tb had lo up) :
    i_Rel k (th, nI n, own, ih_a H) (nI n, tb, lo, up, had) := ⟨th, n, own, H, tb, had, lo, up, rfl, rfl, R⟩
theorem ic_ne {p q : Int32} {a b : Nat} (ha : a < 16) (hb : b < 16) (hab : a ≠ b) (e : p = nI a) (e' : q = nI b) : ¬ p = q := by
  rw [e, e', nI_eq (by omega) (by omega)]; exact hab
theorem i_up {k : Nat} {u : SX} {v : SY} (h : i_Rel k u v) : i_Rel (k + 3) u v := h
theorem i_vc0 : wpX_init (fun u => wpY_init (fun v => i_Rel 0 u v)) := by
  refine nm_e (nm_r (e' := upd (fun _ => 0) 0 1) rfl (nm_e ?_))
  exact ic_mk (n := 0) ic_R_0
theorem i_vc_split {k : Nat} {u : SX} {v : SY} (I : i_Rel k u v) (hk : k + 3 ≤ 1536) (v1 : Int32) : wpX_split (fun r u' => wpY_split (fun r' v' => r' = r ∧ i_Rel (k + 3) u' v') v v1) u v1 := by
  obtain ⟨th, n, own, H, tb, had, lo, up, rfl, rfl, R⟩ := I
  have hT := R.2.1
  have hO := R.2.2.1
  refine wx_split (ic_R_B R) (fun z => wy_split hT (fun _ => ⟨rfl, ic_mk R⟩) (fun a ha e ta => absurd ⟨a, ha, e, ta⟩ z)) (fun a ha e ta => ?_)
  obtain ⟨b, hb, hc, hf⟩ := ip_free th
  obtain ⟨eh, i, hi, oi⟩ := hO.1 a ha ta
  have pos := ip_pos hi oi
  subst e
  refine ⟨b, hb, hc, hf, fun c => wy_split hT (fun z => absurd ((ic_pa_n ha).mpr ta) z) (fun a' ha' e' ta' => ?_), fun b8 h2 => wy_split hT (fun z => absurd ((ic_pa_n ha).mpr ta) z) (fun a' ha' e' ta' => ?_)⟩
  · have ea := (nI_eq (by omega) (by omega)).mp e'
    subst ea
    rw [eh]
    exact ⟨pos, b, hb, hc, hf, fun _ => ⟨rfl, ic_mk R⟩, fun b8 h2 => absurd c (by omega)⟩
  · have ea := (nI_eq (by omega) (by omega)).mp e'
    subst ea
    rw [eh]
    exact ⟨pos, b, hb, hc, hf, fun c => absurd c (by omega), fun _ _ => ⟨rfl, ic_mk (ic_R_split R ha b8 ta (hf b8) h2)⟩⟩
theorem i_vc_join {k : Nat} {u : SX} {v : SY} (I : i_Rel k u v) (hk : k + 3 ≤ 1536) (v1 : Int32) (v2 : Int32) : wpX_join (fun r u' => wpY_join (fun r' v' => r' = r ∧ i_Rel (k + 3) u' v') v v1 v2) u v1 v2 := by
  obtain ⟨th, n, own, H, tb, had, lo, up, rfl, rfl, R⟩ := I
  have hT := R.2.1
  have hO := R.2.2.1
  refine wx_join (ic_R_B R) (fun z => wy_join hT (fun _ => ⟨rfl, ic_mk R⟩) (fun a b ha hb hab e e' ta tb => absurd ⟨⟨a, ha, e, ta⟩, ⟨b, hb, e', tb⟩, ic_ne (by omega) (by omega) hab e e'⟩ z)) (fun a b ha hb hab e e' ta tb => ?_)
  subst e e'
  refine wy_join hT (fun z => absurd ⟨(ic_pa_n ha).mpr ta, (ic_pa_n hb).mpr tb, ic_ne (by omega) (by omega) hab rfl rfl⟩ z) (fun a' b' ha' hb' hab' e e' ta' tb' => ?_)
  have ea := (nI_eq (by omega) (by omega)).mp e
  have eb := (nI_eq (by omega) (by omega)).mp e'
  subst ea eb
  refine ⟨?_, ic_mk (ic_R_join R ha hb hab ta tb)⟩
  rw [(hO.1 a ha ta).1, (hO.1 b hb tb).1]
theorem i_vc_event {k : Nat} {u : SX} {v : SY} (I : i_Rel k u v) (hk : k + 3 ≤ 1536) (v1 : Int32) : wpX_event (fun r u' => wpY_event (fun r' v' => r' = r ∧ i_Rel (k + 3) u' v') v v1) u v1 := by
  obtain ⟨th, n, own, H, tb, had, lo, up, rfl, rfl, R⟩ := I
  have hT := R.2.1
  refine wx_event (ic_R_B R) R.1 (fun z => wy_event hT R.1 (fun _ => ⟨rfl, ic_mk R⟩) (fun a ha e ta => absurd ⟨a, ha, e, ta⟩ z)) (fun a ha e ta => ?_)
  subst e
  refine ⟨fun l => wy_event hT R.1 (fun z => absurd ((ic_pa_n ha).mpr ta) z) (fun a' ha' e' ta' => ⟨fun _ => ⟨rfl, ic_mk R⟩, fun m => absurd m (by omega)⟩),
    fun l => wy_event hT R.1 (fun z => absurd ((ic_pa_n ha).mpr ta) z) (fun a' ha' e' ta' => ⟨fun m => absurd m (by omega), fun _ lo' up' hK' => ?_⟩)⟩
  have ea := (nI_eq (by omega) (by omega)).mp e'
  subst ea
  exact ⟨rfl, ic_mk (ic_R_event R ha ta l hK')⟩
theorem i_vc_tell {k : Nat} {u : SX} {v : SY} (I : i_Rel k u v) (hk : k + 3 ≤ 1536) (v1 : Int32) (v2 : Int32) : wpX_tell (fun r u' => wpY_tell (fun r' v' => r' = r ∧ i_Rel (k + 3) u' v') v v1 v2) u v1 v2 := by
  obtain ⟨th, n, own, H, tb, had, lo, up, rfl, rfl, R⟩ := I
  have hT := R.2.1
  refine wx_tell (ic_R_B R) (fun z => wy_tell hT (fun _ => ⟨rfl, ic_mk R⟩) (fun x b hx hb hab e e' ta tb => absurd ⟨⟨x, hx, e, ta⟩, ⟨b, hb, e', tb⟩, ic_ne hx (by omega) hab e e'⟩ z)) (fun x b hx hb hab e e' ta tb => ?_)
  subst e e'
  refine wy_tell hT (fun z => absurd ⟨(ic_th_n hx).mpr ta, (ic_pa_n hb).mpr tb, ic_ne hx (by omega) hab rfl rfl⟩ z) (fun x' b' hx' hb' hab' e e' ta' tb' => ?_)
  have ea := (nI_eq (by omega) (by omega)).mp e
  have eb := (nI_eq (by omega) (by omega)).mp e'
  subst ea eb
  refine ⟨ic_be ?_, ic_mk (ic_R_tell R hx hb)⟩
  rw [← ic_R_F R x b hx (by omega)]
  constructor
  · intro h
    refine Classical.byContradiction fun g => h (fun i hi => ?_)
    rcases Nat.lt_or_ge (H b i) (H x i) with l | l
    · exact absurd ⟨i, hi, l⟩ g
    · exact l
  · intro ⟨i, hi, l⟩ h
    have := h i hi
    omega
theorem i_vc_note {k : Nat} {u : SX} {v : SY} (I : i_Rel k u v) (hk : k + 3 ≤ 1536) (v1 : Int32) (v2 : Int32) : wpX_note (fun r u' => wpY_note (fun r' v' => r' = r ∧ i_Rel (k + 3) u' v') v v1 v2) u v1 v2 := by
  obtain ⟨th, n, own, H, tb, had, lo, up, rfl, rfl, R⟩ := I
  have hT := R.2.1
  refine wx_mnote (ic_R_B R) (fun z => wy_mnote hT (fun _ => ⟨rfl, ic_mk R⟩) (fun a m ha hm e e' ta => absurd ⟨⟨a, ha, e, ta⟩, ⟨m, hm, e'⟩⟩ z)) (fun a m ha hm e e' ta => ?_)
  subst e e'
  refine wy_mnote hT (fun z => absurd ⟨(ic_pa_n ha).mpr ta, m, hm, rfl⟩ z) (fun a' m' ha' hm' e e' ta' => ?_)
  have ea := (nI_eq (by omega) (by omega)).mp e
  have em := (nI_eq (by omega) (by omega)).mp e'
  subst ea em
  exact ⟨rfl, ic_mk (ic_R_note R ha hm)⟩
theorem i_vc_erase {k : Nat} {u : SX} {v : SY} (I : i_Rel k u v) (hk : k + 3 ≤ 1536) (v1 : Int32) : wpX_erase (fun r u' => wpY_erase (fun r' v' => r' = r ∧ i_Rel (k + 3) u' v') v v1) u v1 := by
  obtain ⟨th, n, own, H, tb, had, lo, up, rfl, rfl, R⟩ := I
  have hT := R.2.1
  refine wx_erase (fun z => wy_erase hT (fun _ => ⟨rfl, ic_mk R⟩) (fun m hm e t => absurd ⟨m, hm, e, t⟩ z)) (fun m hm e t => ?_)
  subst e
  refine wy_erase hT (fun z => absurd ⟨m, hm, rfl, t⟩ z) (fun m' hm' e' t' => ?_)
  have em := (nI_eq (by omega) (by omega)).mp e'
  subst em
  exact ⟨rfl, ic_mk (ic_R_erase R hm)⟩
theorem i_vc_parties {k : Nat} {u : SX} {v : SY} (I : i_Rel k u v) (hk : k + 3 ≤ 1536) : wpX_parties (fun r => wpY_parties (fun r' => r' = r ∧ i_Rel (k + 3) u v) v) u := by
  obtain ⟨th, n, own, H, tb, had, lo, up, rfl, rfl, R⟩ := I
  unfold wpX_parties wpY_parties
  dsimp only
  exact wy_slots (f := 0) R.2.1 (by decide) ⟨is_par, ic_mk R⟩
theorem i_vc_notes {k : Nat} {u : SX} {v : SY} (I : i_Rel k u v) (hk : k + 3 ≤ 1536) : wpX_notes (fun r => wpY_notes (fun r' => r' = r ∧ i_Rel (k + 3) u v) v) u := by
  obtain ⟨th, n, own, H, tb, had, lo, up, rfl, rfl, R⟩ := I
  unfold wpX_notes wpY_notes
  dsimp only
  exact wy_slots (f := 8) R.2.1 (by decide) ⟨is_not R.2.1, ic_mk R⟩
theorem i_vc_events {k : Nat} {u : SX} {v : SY} (I : i_Rel k u v) (hk : k + 3 ≤ 1536) : wpX_events (fun r => wpY_events (fun r' => r' = r ∧ i_Rel (k + 3) u v) v) u := by
  obtain ⟨th, n, own, H, tb, had, lo, up, rfl, rfl, R⟩ := I
  exact ⟨rfl, ic_mk R⟩
theorem i_vc_cells {k : Nat} {u : SX} {v : SY} (I : i_Rel k u v) (hk : k + 3 ≤ 1536) (v1 : Int32) : wpX_cells (fun r => wpY_cells (fun r' => r' = r ∧ i_Rel (k + 3) u v) v v1) u v1 := by
  obtain ⟨th, n, own, H, tb, had, lo, up, rfl, rfl, R⟩ := I
  have hT := R.2.1
  have hO := R.2.2.1
  refine wx_cells (fun z => wy_cells hT (fun _ => ⟨rfl, ic_mk R⟩) (fun a ha e ta => absurd ⟨a, ha, e, ta⟩ z)) (fun a ha e ta => ?_)
  subst e
  refine wy_cells hT (fun z => absurd ((ic_pa_n ha).mpr ta) z) (fun a' ha' e' ta' => ?_)
  have ea := (nI_eq (by omega) (by omega)).mp e'
  subst ea
  refine ⟨?_, ic_mk R⟩
  rw [(hO.1 a ha ta).1]
theorem i_vc_compare {k : Nat} {u : SX} {v : SY} (I : i_Rel k u v) (hk : k + 3 ≤ 1536) (v1 : Int32) (v2 : Int32) : wpX_compare (fun r => wpY_compare (fun r' => r' = r ∧ i_Rel (k + 3) u v) v v1 v2) u v1 v2 := by
  obtain ⟨th, n, own, H, tb, had, lo, up, rfl, rfl, R⟩ := I
  have hT := R.2.1
  refine wx_cmp (ic_R_B R) (ic_R_F R) (fun z => wy_cmp hT (fun _ => ⟨rfl, ic_mk R⟩) (fun x y hx hy e e' tx ty => absurd ⟨⟨x, hx, e, tx⟩, ⟨y, hy, e', ty⟩⟩ z)) (fun x y hx hy e e' tx ty => ?_)
  subst e e'
  refine wy_cmp hT (fun z => absurd ⟨(ic_th_n hx).mpr tx, (ic_th_n hy).mpr ty⟩ z) (fun x' y' hx' hy' e e' tx' ty' => ?_)
  have ex := (nI_eq (by omega) (by omega)).mp e
  have ey := (nI_eq (by omega) (by omega)).mp e'
  subst ex ey
  exact ⟨rfl, ic_mk R⟩
theorem i_vc_behind {k : Nat} {u : SX} {v : SY} (I : i_Rel k u v) (hk : k + 3 ≤ 1536) (v1 : Int32) : wpX_behind (fun r => wpY_behind (fun r' => r' = r ∧ i_Rel (k + 3) u v) v v1) u v1 := by
  obtain ⟨th, n, own, H, tb, had, lo, up, rfl, rfl, R⟩ := I
  have hT := R.2.1
  refine wx_behind (ic_R_B R) (ic_R_F R) (fun z => wy_behind hT (fun _ => ⟨rfl, ic_mk R⟩) (fun x hx e tx => absurd ⟨x, hx, e, tx⟩ z)) (fun x hx e tx => ?_)
  subst e
  refine wy_behind hT (fun z => absurd ((ic_th_n hx).mpr tx) z) (fun x' hx' e' tx' => ?_)
  have ex := (nI_eq (by omega) (by omega)).mp e'
  subst ex
  exact ⟨rfl, ic_mk R⟩
theorem i_vc_newest {k : Nat} {u : SX} {v : SY} (I : i_Rel k u v) (hk : k + 3 ≤ 1536) : wpX_newest (fun r => wpY_newest (fun r' => r' = r ∧ i_Rel (k + 3) u v) v) u := by
  obtain ⟨th, n, own, H, tb, had, lo, up, rfl, rfl, R⟩ := I
  exact wx_newest (ic_R_B R) (ic_R_F R) (fun s hs => wy_newest R.2.1 (fun s' hs' => ⟨ic_MN R.2.1 hs hs', ic_mk R⟩))
theorem i_vc_everywhere {k : Nat} {u : SX} {v : SY} (I : i_Rel k u v) (hk : k + 3 ≤ 1536) (v1 : Int32) : wpX_everywhere (fun r => wpY_everywhere (fun r' => r' = r ∧ i_Rel (k + 3) u v) v v1) u v1 := by
  obtain ⟨th, n, own, H, tb, had, lo, up, rfl, rfl, R⟩ := I
  exact wx_everywhere (ic_R_B R) (ic_R_F R) (wy_everywhere R.2.1 ⟨rfl, ic_mk R⟩)
theorem i_vc_apartPairs {k : Nat} {u : SX} {v : SY} (I : i_Rel k u v) (hk : k + 3 ≤ 1536) : wpX_apartPairs (fun r => wpY_apartPairs (fun r' => r' = r ∧ i_Rel (k + 3) u v) v) u := by
  obtain ⟨th, n, own, H, tb, had, lo, up, rfl, rfl, R⟩ := I
  exact wx_apart (ic_R_B R) (ic_R_F R) (wy_apart R.2.1 ⟨rfl, ic_mk R⟩)
end
