section
/-! pure rows to paste: stores, nI and lN arithmetic, masks, shifts, narrowing, branches by naturals (pk_le, pk_lt, pk_eq), loops (lp1 .. lp16: the measure of the state; rp1 ..: recursion), negatives. Take what you need -/
theorem pk_us {f : Nat → Int32} {k : Nat} {x : Int32} : upd f k x k = x := if_pos rfl
theorem pk_un {f : Nat → Int32} {k j : Nat} {x : Int32} (h : j ≠ k) : upd f k x j = f j := if_neg h
theorem pk_uLs {f : Nat → Int64} {k : Nat} {x : Int64} : vp_updL f k x k = x := if_pos rfl
theorem pk_uLn {f : Nat → Int64} {k j : Nat} {x : Int64} (h : j ≠ k) : vp_updL f k x j = f j := if_neg h
theorem pk_sub {a b : Nat} (h : b ≤ a) : nI a - nI b = nI (a - b) := by
  obtain ⟨c, rfl⟩ : ∃ c, a = c + b := ⟨a - b, by omega⟩
  rw [← nI_add, Int32.add_sub_cancel, Nat.add_sub_cancel]
theorem pk_m1 (n : Nat) : nI (n + 1) + (-1) = nI n := by
  rw [← nI_1, Int32.add_assoc, show (1 : Int32) + (-1) = 0 from rfl, Int32.add_zero]
theorem pk_mul (a b : Nat) : nI a * nI b = nI (a * b) := (Int32.ofNat_mul a b).symm
theorem pk_div {a d : Nat} (ha : a < 2 ^ 31) (h0 : 0 < d) (hd : d < 2 ^ 31) : nI a / nI d = nI (a / d) := by
  apply Int32.toInt_inj.mp
  rw [lg_idiv_nonneg (by rw [nI_toInt ha]; omega) (by rw [nI_toInt hd]; omega), nI_toInt ha, nI_toInt hd, nI_toInt (Nat.lt_of_le_of_lt (Nat.div_le_self a d) ha)]
  first | rfl | exact (Int.natCast_ediv _ _).symm
theorem pk_rem {a d : Nat} (ha : a < 2 ^ 31) (h0 : 0 < d) (hd : d < 2 ^ 31) : nI a - nI a / nI d * nI d = nI (a % d) := by
  rw [pk_div ha h0 hd, pk_mul, pk_sub (Nat.div_mul_le_self a d)]
  exact congrArg nI (by have := Nat.div_add_mod' a d; omega)
theorem pk_sub_toInt {a b : Nat} (ha : a < 2 ^ 30) (hb : b < 2 ^ 30) : (nI a - nI b).toInt = (a : Int) - b := by
  rw [Int32.toInt_sub, nI_toInt (by omega), nI_toInt (by omega)]
  exact Int.bmod_eq_of_le (by omega) (by omega)
theorem pk_sneg {a b : Nat} (hb : b < 2 ^ 30) (h : a < b) : nI a - nI b < 0 := by
  rw [Int32.lt_iff_toInt_lt, pk_sub_toInt (by omega) hb, show (0 : Int32).toInt = 0 from by decide]
  omega
theorem pk_ix (x : Int32) {n : Nat} (hn : n < 2 ^ 31) : x < 0 ∨ nI n ≤ x ∨ ∃ j : Nat, j < n ∧ x = nI j := by
  by_cases h : x < 0
  · exact Or.inl h
  · obtain ⟨j, hj, rfl⟩ := nI_of h
    by_cases h2 : j < n
    · exact Or.inr (Or.inr ⟨j, h2, rfl⟩)
    · exact Or.inr (Or.inl (nI_le (by omega) hj))
theorem pk_le {x y : Int32} {A B : Prop} (a b : Nat) (f : a ≤ b → A) (g : b < a → B) (hx : x = nI a := by rfl) (hy : y = nI b := by rfl) (ha : a < 2 ^ 31 := by omega) (hb : b < 2 ^ 31 := by omega) : (x ≤ y → A) ∧ (¬ x ≤ y → B) := by
  subst hx hy
  rw [nI_leI ha hb]
  exact ⟨f, fun z => g (by omega)⟩
theorem pk_lt {x y : Int32} {A B : Prop} (a b : Nat) (f : a < b → A) (g : b ≤ a → B) (hx : x = nI a := by rfl) (hy : y = nI b := by rfl) (ha : a < 2 ^ 31 := by omega) (hb : b < 2 ^ 31 := by omega) : (x < y → A) ∧ (¬ x < y → B) := by
  subst hx hy
  rw [nI_ltI ha hb]
  exact ⟨f, fun z => g (by omega)⟩
theorem pk_eq {x y : Int32} {A B : Prop} (a b : Nat) (f : a = b → A) (g : a ≠ b → B) (hx : x = nI a := by rfl) (hy : y = nI b := by rfl) (ha : a < 2 ^ 31 := by omega) (hb : b < 2 ^ 31 := by omega) : (x = y → A) ∧ (¬ x = y → B) := by
  subst hx hy
  rw [nI_eq ha hb]
  exact ⟨f, g⟩
theorem pk_in {x : Int32} (n N : Nat) (h : n < N) (hx : x = nI n := by rfl) (hN : N < 2 ^ 31 := by omega) : vp_in x N := by
  subst hx
  exact vp_in_nI h hN
theorem pk_cl {x : Int32} (n : Nat) (hx : x = nI n := by rfl) (h : n < 2 ^ 31 := by omega) : x.toNatClampNeg = n := by
  subst hx
  exact nI_clamp h
/-! rows on bits, shifts and unsigned numbers, to paste: each family out of a closed proof of our own, whole with what it rests on; each by itself clean at Lean in its own claim (generation 39, form 5). Take a family whole -/
/-! ===== Int32 by its bits: bt x i ===== -/
def bt (x : Int32) (i : Nat) : Bool := x.toBitVec.getLsbD i
theorem b_ext {x y : Int32} (h : ∀ i, i < 32 → bt x i = bt y i) : x = y := Int32.toBitVec_inj.mp (BitVec.eq_of_getLsbD_eq (fun i hi => h i hi))
theorem b_or (x y : Int32) (i : Nat) : bt (x ||| y) i = (bt x i || bt y i) := by unfold bt; rw [Int32.toBitVec_or, BitVec.getLsbD_or]
theorem b_and (x y : Int32) (i : Nat) : bt (x &&& y) i = (bt x i && bt y i) := by unfold bt; rw [Int32.toBitVec_and, BitVec.getLsbD_and]
theorem b_xor (x y : Int32) (i : Nat) : bt (x ^^^ y) i = (bt x i ^^ bt y i) := by unfold bt; rw [Int32.toBitVec_xor, BitVec.getLsbD_xor]
theorem b_big {x : Int32} {i : Nat} (h : 32 ≤ i) : bt x i = false := BitVec.getLsbD_of_ge _ _ h
theorem b_255 (i : Nat) : bt 255 i = decide (i < 8) := by
  rcases Nat.lt_or_ge i 32 with h | h
  · exact (by decide +kernel : ∀ i, i < 32 → bt 255 i = decide (i < 8)) i h
  · rw [b_big h, decide_eq_false (by omega)]
theorem b_65535 (i : Nat) : bt 65535 i = decide (i < 16) := by
  rcases Nat.lt_or_ge i 32 with h | h
  · exact (by decide +kernel : ∀ i, i < 32 → bt 65535 i = decide (i < 16)) i h
  · rw [b_big h, decide_eq_false (by omega)]
theorem b_m1 : ∀ i, i < 32 → bt (-1) i = true := by decide +kernel
theorem b_0 (i : Nat) : bt 0 i = false := BitVec.getLsbD_zero
theorem s_l : ∀ n, n < 32 → ((nI n &&& 31).toBitVec.smod 32).toNat = n := by decide +kernel
theorem s_u : ∀ n, n < 32 → (((nI n).toUInt32 &&& Int32.toUInt32 31).toBitVec % 32).toNat = n := by decide +kernel
theorem b_shl (n : Nat) (hn : n < 32) (x : Int32) {i : Nat} (hi : i < 32) : bt (x <<< (nI n &&& 31)) i = (decide (n ≤ i) && bt x (i - n)) := by
  unfold bt
  rw [Int32.toBitVec_shiftLeft]
  show (x.toBitVec <<< ((nI n &&& 31).toBitVec.smod 32).toNat).getLsbD i = _
  rw [s_l n hn, BitVec.getLsbD_shiftLeft]
  rcases Nat.lt_or_ge i n with h | h
  · simp [h, Nat.not_le.mpr h]
  · simp [hi, h, Nat.not_lt.mpr h]
theorem b_ushr (n : Nat) (hn : n < 32) (x : Int32) (i : Nat) : bt ((x.toUInt32 >>> ((nI n).toUInt32 &&& Int32.toUInt32 31)).toInt32) i = bt x (n + i) := by
  show (x.toUInt32 >>> ((nI n).toUInt32 &&& Int32.toUInt32 31)).toBitVec.getLsbD i = x.toUInt32.toBitVec.getLsbD (n + i)
  rw [UInt32.toBitVec_shiftRight]
  show (x.toUInt32.toBitVec >>> (((nI n).toUInt32 &&& Int32.toUInt32 31).toBitVec % 32).toNat).getLsbD i = _
  rw [s_u n hn, BitVec.getLsbD_ushiftRight]
theorem b_sshr (n : Nat) (hn : n < 32) (x : Int32) {i : Nat} (hi : i < 32) : bt (x >>> (nI n &&& 31)) i = if n + i < 32 then bt x (n + i) else bt x 31 := by
  unfold bt
  rw [Int32.toBitVec_shiftRight]
  show (x.toBitVec.sshiftRight ((nI n &&& 31).toBitVec.smod 32).toNat).getLsbD i = _
  rw [s_l n hn, BitVec.getLsbD_sshiftRight, BitVec.msb_eq_getLsbD_last]
  simp [hi]
end
section
/-! ===== the pure theory over an abstract monotone predecessor P ===== -/
section
variable {n p q : Nat} {P : (Nat → Prop) → Nat → Prop} {A G : Nat → Nat → Prop}
/-- P grows with its set (states below n alone count) -/
def gm_mono (n : Nat) (P : (Nat → Prop) → Nat → Prop) : Prop := ∀ S T : Nat → Prop, (∀ t, t < n → S t → T t) → ∀ c, c < n → P S c → P T c
/-- the least set that holds gl and is closed under P inside op -/
def gm_R (n : Nat) (P : (Nat → Prop) → Nat → Prop) (gl op : Nat → Prop) (c : Nat) : Prop := ∀ S : Nat → Prop, (∀ t, t < n → (gl t ∨ (op t ∧ P S t)) → S t) → S c
theorem gm_R_fold (m : gm_mono n P) {gl op : Nat → Prop} {c : Nat} (hc : c < n) (h : gl c ∨ (op c ∧ P (gm_R n P gl op) c)) : gm_R n P gl op c := by
  intro S hS
  refine hS c hc ?_
  rcases h with h | ⟨ho, h⟩
  · exact Or.inl h
  · exact Or.inr ⟨ho, m _ _ (fun t _ ht => ht S hS) c hc h⟩
theorem gm_R_unf (m : gm_mono n P) {gl op : Nat → Prop} {c : Nat} (h : gm_R n P gl op c) : gl c ∨ (op c ∧ P (gm_R n P gl op) c) := by
  refine h (fun t => gl t ∨ (op t ∧ P (gm_R n P gl op) t)) ?_
  intro t ht h1
  rcases h1 with h1 | ⟨ho, h1⟩
  · exact Or.inl h1
  · exact Or.inr ⟨ho, m _ _ (fun s hs hh => gm_R_fold m hs hh) t ht h1⟩
theorem gm_R_mono {gl gl' op : Nat → Prop} (hg : ∀ t, t < n → gl t → gl' t) {c : Nat} (h : gm_R n P gl op c) : gm_R n P gl' op c := by
  intro S hS
  refine h S ?_
  intro t ht h1
  refine hS t ht ?_
  rcases h1 with h1 | h1
  · exact Or.inl (hg t ht h1)
  · exact Or.inr h1
/-- what the reach for one assumption a aims at, in a layer of guarantee g above B with held set K -/
def gm_gi (P : (Nat → Prop) → Nat → Prop) (a g B K : Nat → Prop) (c : Nat) : Prop := (g c ∧ P B c) ∨ (a c ∧ (¬ g c ∧ P K c))
def gm_PF (n p : Nat) (P : (Nat → Prop) → Nat → Prop) (A : Nat → Nat → Prop) (g B K : Nat → Prop) : Prop := ∀ c, c < n → K c → (¬ g c ∨ (g c ∧ P B c)) ∧ ∀ i, i < p → gm_R n P (gm_gi P (A i) g B K) (fun t => ¬ g t) c
def gm_H (n p : Nat) (P : (Nat → Prop) → Nat → Prop) (A : Nat → Nat → Prop) (g B : Nat → Prop) (c : Nat) : Prop := ∃ K : Nat → Prop, gm_PF n p P A g B K ∧ K c
theorem gm_gi_mono (m : gm_mono n P) {a g B B' K K' : Nat → Prop} (hB : ∀ t, t < n → B t → B' t) (hK : ∀ t, t < n → K t → K' t) : ∀ t, t < n → gm_gi P a g B K t → gm_gi P a g B' K' t := by
  intro t ht h
  rcases h with ⟨h1, h2⟩ | ⟨h1, h2, h3⟩
  · exact Or.inl ⟨h1, m _ _ hB t ht h2⟩
  · exact Or.inr ⟨h1, h2, m _ _ hK t ht h3⟩
theorem gm_H_pf (m : gm_mono n P) {g B : Nat → Prop} : gm_PF n p P A g B (gm_H n p P A g B) := by
  intro c hc ⟨K, hK, hKc⟩
  have h := hK c hc hKc
  refine ⟨h.1, fun i hi => gm_R_mono ?_ (h.2 i hi)⟩
  exact gm_gi_mono m (fun t _ h => h) (fun t _ h => ⟨K, hK, h⟩)
theorem gm_PF_mono (m : gm_mono n P) {g B B' K : Nat → Prop} (hB : ∀ t, t < n → B t → B' t) (h : gm_PF n p P A g B K) : gm_PF n p P A g B' K := by
  intro c hc hk
  have h0 := h c hc hk
  refine ⟨?_, fun i hi => gm_R_mono (gm_gi_mono m hB (fun t _ h => h)) (h0.2 i hi)⟩
  rcases h0.1 with h1 | ⟨h1, h2⟩
  · exact Or.inl h1
  · exact Or.inr ⟨h1, m _ _ hB c hc h2⟩
theorem gm_H_mono (m : gm_mono n P) {g B B' : Nat → Prop} (hB : ∀ t, t < n → B t → B' t) {c : Nat} (h : gm_H n p P A g B c) : gm_H n p P A g B' c := by
  obtain ⟨K, hK, hKc⟩ := h
  exact ⟨K, gm_PF_mono m hB hK, hKc⟩
theorem gm_H_exit (m : gm_mono n P) {g B : Nat → Prop} {c : Nat} (hc : c < n) (hg : g c) (hB : P B c) : gm_H n p P A g B c := by
  refine ⟨fun t => gm_H n p P A g B t ∨ (g t ∧ P B t), ?_, Or.inr ⟨hg, hB⟩⟩
  intro t ht hk
  rcases hk with hk | ⟨h1, h2⟩
  · have h := gm_H_pf m t ht hk
    exact ⟨h.1, fun i hi => gm_R_mono (gm_gi_mono m (fun _ _ h => h) (fun _ _ h => Or.inl h)) (h.2 i hi)⟩
  · exact ⟨Or.inr ⟨h1, h2⟩, fun i hi => gm_R_fold m ht (Or.inl (Or.inl ⟨h1, h2⟩))⟩
theorem gm_H_R (m : gm_mono n P) {g B : Nat → Prop} {i c : Nat} (hi : i < p) (h : gm_R n P (gm_gi P (A i) g B (gm_H n p P A g B)) (fun t => ¬ g t) c) : gm_H n p P A g B c := by
  refine ⟨gm_R n P (gm_gi P (A i) g B (gm_H n p P A g B)) (fun t => ¬ g t), ?_, h⟩
  have hHK : ∀ t, t < n → gm_H n p P A g B t → gm_R n P (gm_gi P (A i) g B (gm_H n p P A g B)) (fun t => ¬ g t) t := fun t ht h => (gm_H_pf m t ht h).2 i hi
  intro t ht hk
  refine ⟨?_, fun j hj => ?_⟩
  · rcases gm_R_unf m hk with (h1 | ⟨_, h1, _⟩) | ⟨h1, _⟩
    · exact Or.inr h1
    · exact Or.inl h1
    · exact Or.inl h1
  · refine hk (gm_R n P (gm_gi P (A j) g B (gm_R n P (gm_gi P (A i) g B (gm_H n p P A g B)) (fun t => ¬ g t))) (fun t => ¬ g t)) ?_
    intro s hs h1
    rcases h1 with (h1 | ⟨_, h1, h2⟩) | ⟨h1, h2⟩
    · exact gm_R_fold m hs (Or.inl (Or.inl h1))
    · refine gm_R_fold m hs (Or.inr ⟨h1, m _ _ (fun r hr hh => ?_) s hs h2⟩)
      exact gm_R_mono (gm_gi_mono m (fun _ _ h => h) hHK) ((gm_H_pf m r hr hh).2 j hj)
    · exact gm_R_fold m hs (Or.inr ⟨h1, h2⟩)
theorem gm_H_step (m : gm_mono n P) (hp : 0 < p) {g B : Nat → Prop} {c : Nat} (hc : c < n) (hg : ¬ g c) (h : P (gm_H n p P A g B) c) : gm_H n p P A g B c :=
  gm_H_R m hp (gm_R_fold m hc (Or.inr ⟨hg, m _ _ (fun t ht hh => (gm_H_pf m t ht hh).2 0 hp) c hc h⟩))
theorem gm_H_unf (m : gm_mono n P) (hp : 0 < p) {g B : Nat → Prop} {c : Nat} (hc : c < n) (h : gm_H n p P A g B c) : (g c ∧ P B c) ∨ (¬ g c ∧ P (gm_H n p P A g B) c) := by
  have h1 := (gm_H_pf m c hc h).2 0 hp
  rcases gm_R_unf m h1 with (h2 | ⟨_, h2, h3⟩) | ⟨h2, h3⟩
  · exact Or.inl h2
  · exact Or.inr ⟨h2, h3⟩
  · exact Or.inr ⟨h2, m _ _ (fun t ht hh => gm_H_R m hp hh) c hc h3⟩
/-- induction over the reach of assumption i inside a layer -/
theorem gm_H_ind (m : gm_mono n P) (hp : 0 < p) {g B : Nat → Prop} {i : Nat} (hi : i < p) (S : Nat → Prop) (hS : ∀ t, t < n → gm_H n p P A g B t → ((g t ∧ P B t) ∨ (A i t ∧ ¬ g t ∧ P (gm_H n p P A g B) t) ∨ (¬ g t ∧ P (fun s => gm_H n p P A g B s ∧ S s) t)) → S t) {c : Nat} (hc : c < n) (h : gm_H n p P A g B c) : S c := by
  have h1 := (gm_H_pf m c hc h).2 i hi
  refine (h1 (fun s => gm_H n p P A g B s ∧ S s) ?_).2
  intro t ht h2
  have hH : gm_H n p P A g B t := by
    rcases h2 with (⟨h3, h4⟩ | ⟨_, h3, h4⟩) | ⟨h3, h4⟩
    · exact gm_H_exit m ht h3 h4
    · exact gm_H_step m hp ht h3 h4
    · exact gm_H_step m hp ht h3 (m _ _ (fun s _ hh => hh.1) t ht h4)
  refine ⟨hH, hS t ht hH ?_⟩
  rcases h2 with (h3 | h3) | h3
  · exact Or.inl h3
  · exact Or.inr (Or.inl h3)
  · exact Or.inr (Or.inr h3)
/-- the siege layers; L 0 is empty -/
def gm_L (n p q : Nat) (P : (Nat → Prop) → Nat → Prop) (A G : Nat → Nat → Prop) : Nat → Nat → Prop
  | 0 => fun _ => False
  | y + 1 => gm_H n p P A (G (y % q)) (gm_L n p q P A G y)
theorem gm_L_up (m : gm_mono n P) (hp : 0 < p) (y : Nat) (ih : ∀ z, z ≤ y → ∀ c, c < n → gm_L n p q P A G z c → gm_L n p q P A G y c) : ∀ c, c < n → gm_L n p q P A G y c → gm_L n p q P A G (y + 1) c := by
  cases y with
  | zero => intro c _ h; exact False.elim h
  | succ y =>
    have hPK : ∀ c, c < n → gm_L n p q P A G (y + 1) c → P (gm_L n p q P A G (y + 1)) c := by
      intro c hc h
      rcases gm_H_unf m hp hc h with ⟨_, h2⟩ | ⟨_, h2⟩
      · exact m _ _ (ih y (by omega)) c hc h2
      · exact h2
    intro c hc h
    refine ⟨gm_L n p q P A G (y + 1), ?_, h⟩
    intro t ht hK
    refine ⟨?_, fun i hi => ?_⟩
    · by_cases hg : G ((y + 1) % q) t
      · exact Or.inr ⟨hg, hPK t ht hK⟩
      · exact Or.inl hg
    · have key : ∀ z, z ≤ y + 1 → ∀ s, s < n → gm_L n p q P A G z s → gm_R n P (gm_gi P (A i) (G ((y + 1) % q)) (gm_L n p q P A G (y + 1)) (gm_L n p q P A G (y + 1))) (fun t => ¬ G ((y + 1) % q) t) s := by
        intro z
        induction z with
        | zero => intro _ s _ h; exact False.elim h
        | succ z ihz =>
          intro hz s hs hL
          refine gm_H_ind m hp hi (gm_R n P (gm_gi P (A i) (G ((y + 1) % q)) (gm_L n p q P A G (y + 1)) (gm_L n p q P A G (y + 1))) (fun t => ¬ G ((y + 1) % q) t)) ?_ hs hL
          intro r hr hH h1
          have hKr := ih (z + 1) hz r hr hH
          by_cases hg : G ((y + 1) % q) r
          · exact gm_R_fold m hr (Or.inl (Or.inl ⟨hg, hPK r hr hKr⟩))
          · rcases h1 with ⟨_, h2⟩ | ⟨h2, _, h3⟩ | ⟨_, h3⟩
            · exact gm_R_fold m hr (Or.inr ⟨hg, m _ _ (ihz (by omega)) r hr h2⟩)
            · exact gm_R_fold m hr (Or.inl (Or.inr ⟨h2, hg, m _ _ (ih (z + 1) hz) r hr h3⟩))
            · exact gm_R_fold m hr (Or.inr ⟨hg, m _ _ (fun _ _ hh => hh.2) r hr h3⟩)
      exact key (y + 1) (Nat.le_refl _) t ht hK
theorem gm_L_le (m : gm_mono n P) (hp : 0 < p) : ∀ y z, z ≤ y → ∀ c, c < n → gm_L n p q P A G z c → gm_L n p q P A G y c := by
  intro y
  induction y with
  | zero =>
    intro z hz c _ h
    obtain rfl : z = 0 := by omega
    exact h
  | succ y ih =>
    intro z hz c hc h
    rcases Nat.lt_or_ge z (y + 1) with hz' | hz'
    · exact gm_L_up m hp y ih c hc (ih z (by omega) c hc h)
    · obtain rfl : z = y + 1 := by omega
      exact h
end
/-! ===== counting ===== -/
noncomputable def gm_b (a : Prop) : Nat := @ite _ a (Classical.propDecidable a) 1 0
theorem gm_b1 {a : Prop} (h : a) : gm_b a = 1 := if_pos h
theorem gm_b0 {a : Prop} (h : ¬ a) : gm_b a = 0 := if_neg h
theorem gm_b_le (a : Prop) : gm_b a ≤ 1 := by
  by_cases h : a
  · rw [gm_b1 h]; exact Nat.le_refl 1
  · rw [gm_b0 h]; exact Nat.zero_le 1
theorem gm_b_mono {a b : Prop} (h : a → b) : gm_b a ≤ gm_b b := by
  by_cases ha : a
  · rw [gm_b1 ha, gm_b1 (h ha)]; exact Nat.le_refl 1
  · rw [gm_b0 ha]; exact Nat.zero_le _
noncomputable def gm_cn (S : Nat → Prop) : Nat → Nat
  | 0 => 0
  | k + 1 => gm_cn S k + gm_b (S k)
theorem gm_cn_s (S : Nat → Prop) (k : Nat) : gm_cn S (k + 1) = gm_cn S k + gm_b (S k) := rfl
theorem gm_cn_le (S : Nat → Prop) : ∀ k, gm_cn S k ≤ k := by
  intro k
  induction k with
  | zero => exact Nat.le_refl 0
  | succ k ih =>
    have h := gm_b_le (S k)
    rw [gm_cn_s]
    omega
theorem gm_cn_mono {S T : Nat → Prop} : ∀ k, (∀ t, t < k → S t → T t) → gm_cn S k ≤ gm_cn T k := by
  intro k
  induction k with
  | zero => intro _; exact Nat.le_refl 0
  | succ k ih =>
    intro h
    have h1 := ih (fun t ht => h t (by omega))
    have h2 := gm_b_mono (h k (by omega))
    rw [gm_cn_s, gm_cn_s]
    omega
theorem gm_cn_congr {S T : Nat → Prop} (k : Nat) (h : ∀ t, t < k → (S t ↔ T t)) : gm_cn S k = gm_cn T k :=
  Nat.le_antisymm (gm_cn_mono k (fun t ht => (h t ht).1)) (gm_cn_mono k (fun t ht => (h t ht).2))
theorem gm_cn_lt {S T : Nat → Prop} : ∀ k, (∀ t, t < k → S t → T t) → ∀ s, s < k → T s → ¬ S s → gm_cn S k < gm_cn T k := by
  intro k
  induction k with
  | zero => intro _ s hs; omega
  | succ k ih =>
    intro h s hs hT hS
    rw [gm_cn_s, gm_cn_s]
    rcases Nat.lt_or_ge s k with hk | hk
    · have h1 := ih (fun t ht => h t (by omega)) s hk hT hS
      have h2 := gm_b_mono (h k (by omega))
      omega
    · obtain rfl : s = k := by omega
      have h1 := gm_cn_mono s (fun t ht => h t (by omega))
      rw [gm_b1 hT, gm_b0 hS]
      omega
theorem gm_cn_full {S : Nat → Prop} : ∀ k, k ≤ gm_cn S k → ∀ t, t < k → S t := by
  intro k
  induction k with
  | zero => intro _ t ht; omega
  | succ k ih =>
    intro h t ht
    rw [gm_cn_s] at h
    have h1 := gm_cn_le S k
    have h2 := gm_b_le (S k)
    rcases Nat.lt_or_ge t k with hk | hk
    · exact ih (by omega) t hk
    · obtain rfl : t = k := by omega
      refine Classical.byContradiction fun hn => ?_
      rw [gm_b0 hn] at h
      omega
/-- a growing chain over n states whose step has period q stands still from n * q on -/
theorem gm_chain {n q : Nat} (hq : 0 < q) (F : Nat → Nat → Prop) (up : ∀ y c, c < n → F y c → F (y + 1) c) (per : ∀ y z, y % q = z % q → (∀ c, c < n → (F y c ↔ F z c)) → ∀ c, c < n → F (y + 1) c → F (z + 1) c) : ∀ y, n * q ≤ y → ∀ c, c < n → F y c → F (n * q) c := by
  have le : ∀ d y c, c < n → F y c → F (y + d) c := by
    intro d
    induction d with
    | zero => intro y c _ h; exact h
    | succ d ih => intro y c hc h; exact up (y + d) c hc (ih y c hc h)
  have le' : ∀ y z, y ≤ z → ∀ c, c < n → F y c → F z c := by
    intro y z hz c hc h
    have h1 := le (z - y) y c hc h
    rwa [show y + (z - y) = z from by omega] at h1
  have cl : ∀ k, (∀ y, k * q ≤ y → ∀ c, c < n → F y c → F (k * q) c) ∨ k ≤ gm_cn (F (k * q)) n := by
    intro k
    induction k with
    | zero => exact Or.inr (Nat.zero_le _)
    | succ k ih =>
      rw [Nat.succ_mul]
      generalize k * q = e at ih ⊢
      rcases ih with st | hcn
      · refine Or.inl fun y hy c hc h => ?_
        exact le' e (e + q) (by omega) c hc (st y (by omega) c hc h)
      · by_cases hE : ∀ c, c < n → F (e + q) c → F e c
        · refine Or.inl ?_
          have hs : ∀ d c, c < n → F (e + d) c → F e c := by
            intro d
            induction d with
            | zero => intro c _ h; exact h
            | succ d ihd =>
              intro c hc h
              have hr := Nat.mod_lt d hq
              have h1 : ∀ c, c < n → (F (e + d) c ↔ F (e + d % q) c) := by
                intro c hc
                constructor
                · intro h2; exact le' e _ (by omega) c hc (ihd c hc h2)
                · intro h2; exact le' e _ (by omega) c hc (hE c hc (le' _ (e + q) (by omega) c hc h2))
              have h2 : (e + d) % q = (e + d % q) % q := by rw [Nat.add_mod_mod]
              have h3 := per (e + d) (e + d % q) h2 h1 c hc h
              exact hE c hc (le' _ (e + q) (by omega) c hc h3)
          intro y hy c hc h
          have h1 : F (e + (y - e)) c := by rwa [show e + (y - e) = y from by omega]
          exact le' e (e + q) (by omega) c hc (hs (y - e) c hc h1)
        · refine Or.inr ?_
          have h1 : ∃ c, c < n ∧ F (e + q) c ∧ ¬ F e c := by
            refine Classical.byContradiction fun hn => hE fun c hc h => ?_
            exact Classical.byContradiction fun h2 => hn ⟨c, hc, h, h2⟩
          obtain ⟨c, hc, h2, h3⟩ := h1
          have h4 := gm_cn_lt n (le' e (e + q) (by omega)) c hc h2 h3
          omega
  intro y hy c hc h
  rcases cl n with st | hcn
  · exact st y hy c hc h
  · exact gm_cn_full n hcn c hc
end
section
/-! ===== stability, the chase, determinacy, distances ===== -/
section
variable {n p q : Nat} {P : (Nat → Prop) → Nat → Prop} {A G : Nat → Nat → Prop}
theorem gm_L_st (m : gm_mono n P) (hp : 0 < p) (hq : 0 < q) : ∀ y, n * q ≤ y → ∀ c, c < n → gm_L n p q P A G y c → gm_L n p q P A G (n * q) c := by
  refine gm_chain hq (gm_L n p q P A G) (fun y c hc h => gm_L_le m hp (y + 1) y (by omega) c hc h) ?_
  intro y z hyz h c hc h1
  show gm_H n p P A (G (z % q)) (gm_L n p q P A G z) c
  rw [← hyz]
  exact gm_H_mono m (fun t ht hh => (h t ht).1 hh) h1
/-- the last layer is closed under P, and lies inside P of itself -/
theorem gm_Li_step (m : gm_mono n P) (hp : 0 < p) (hq : 0 < q) {c : Nat} (hc : c < n) (h : P (gm_L n p q P A G (n * q)) c) : gm_L n p q P A G (n * q) c := by
  refine gm_L_st m hp hq (n * q + 1) (by omega) c hc ?_
  by_cases hg : G (n * q % q) c
  · exact gm_H_exit m hc hg h
  · exact gm_H_step m hp hc hg (m _ _ (gm_L_le m hp (n * q + 1) (n * q) (by omega)) c hc h)
theorem gm_Li_unf (m : gm_mono n P) (hp : 0 < p) (hq : 0 < q) {c : Nat} (hc : c < n) (h : gm_L n p q P A G (n * q) c) : P (gm_L n p q P A G (n * q)) c := by
  have h1 := gm_L_le m hp (n * q + 1) (n * q) (by omega) c hc h
  rcases gm_H_unf m hp hc h1 with ⟨_, h2⟩ | ⟨_, h2⟩
  · exact h2
  · exact m _ _ (gm_L_st m hp hq (n * q + 1) (by omega)) c hc h2
/-- SYS's predecessor -/
def gm_PS (P : (Nat → Prop) → Nat → Prop) (T : Nat → Prop) (c : Nat) : Prop := ¬ P (fun t => ¬ T t) c
theorem gm_PS_mono (m : gm_mono n P) : gm_mono n (gm_PS P) := by
  intro S T h c hc h1 h2
  exact h1 (m _ _ (fun t ht hh hS => hh (h t ht hS)) c hc h2)
def gm_CF (n : Nat) (P : (Nat → Prop) → Nat → Prop) (a gl B K : Nat → Prop) : Prop := ∀ c, c < n → K c → (gl c ∨ (a c ∧ gm_PS P B c)) ∨ (¬ a c ∧ gm_PS P K c)
def gm_C (n : Nat) (P : (Nat → Prop) → Nat → Prop) (a gl B : Nat → Prop) (c : Nat) : Prop := ∃ K : Nat → Prop, gm_CF n P a gl B K ∧ K c
theorem gm_C_cf (m : gm_mono n P) {a gl B : Nat → Prop} : gm_CF n P a gl B (gm_C n P a gl B) := by
  intro c hc ⟨K, hK, hKc⟩
  rcases hK c hc hKc with h | ⟨h1, h2⟩
  · exact Or.inl h
  · exact Or.inr ⟨h1, gm_PS_mono m _ _ (fun t _ hh => ⟨K, hK, hh⟩) c hc h2⟩
theorem gm_C_fold (m : gm_mono n P) {a gl B : Nat → Prop} {c : Nat} (h : (gl c ∨ (a c ∧ gm_PS P B c)) ∨ (¬ a c ∧ gm_PS P (gm_C n P a gl B) c)) : gm_C n P a gl B c := by
  refine ⟨fun t => (gl t ∨ (a t ∧ gm_PS P B t)) ∨ (¬ a t ∧ gm_PS P (gm_C n P a gl B) t), ?_, h⟩
  intro t ht hk
  rcases hk with hk | ⟨h1, h2⟩
  · exact Or.inl hk
  · exact Or.inr ⟨h1, gm_PS_mono m _ _ (fun s hs hh => gm_C_cf m s hs hh) t ht h2⟩
theorem gm_C_mono (m : gm_mono n P) {a gl B B' : Nat → Prop} (hB : ∀ t, t < n → B t → B' t) {c : Nat} (h : gm_C n P a gl B c) : gm_C n P a gl B' c := by
  obtain ⟨K, hK, hKc⟩ := h
  refine ⟨K, fun t ht hk => ?_, hKc⟩
  rcases hK t ht hk with (h | ⟨h1, h2⟩) | h
  · exact Or.inl (Or.inl h)
  · exact Or.inl (Or.inr ⟨h1, gm_PS_mono m _ _ hB t ht h2⟩)
  · exact Or.inr h
def gm_D (n p : Nat) (P : (Nat → Prop) → Nat → Prop) (A : Nat → Nat → Prop) (gl : Nat → Prop) : Nat → Nat → Prop
  | 0 => fun _ => False
  | x + 1 => gm_C n P (A (x % p)) gl (gm_D n p P A gl x)
theorem gm_D_up (m : gm_mono n P) {gl : Nat → Prop} : ∀ x c, c < n → gm_D n p P A gl x c → gm_D n p P A gl (x + 1) c := by
  intro x
  induction x with
  | zero => intro c _ h; exact False.elim h
  | succ x ih =>
    intro c hc h
    refine ⟨gm_D n p P A gl (x + 1), fun t ht hk => ?_, h⟩
    have h1 : gl t ∨ gm_PS P (gm_D n p P A gl (x + 1)) t := by
      rcases gm_C_cf m t ht hk with (h | ⟨_, h⟩) | ⟨_, h⟩
      · exact Or.inl h
      · exact Or.inr (gm_PS_mono m _ _ ih t ht h)
      · exact Or.inr h
    rcases h1 with h1 | h1
    · exact Or.inl (Or.inl h1)
    · by_cases ha : A ((x + 1) % p) t
      · exact Or.inl (Or.inr ⟨ha, h1⟩)
      · exact Or.inr ⟨ha, h1⟩
theorem gm_D_le (m : gm_mono n P) {gl : Nat → Prop} : ∀ x z, z ≤ x → ∀ c, c < n → gm_D n p P A gl z c → gm_D n p P A gl x c := by
  intro x
  induction x with
  | zero =>
    intro z hz c _ h
    obtain rfl : z = 0 := by omega
    exact h
  | succ x ih =>
    intro z hz c hc h
    rcases Nat.lt_or_ge z (x + 1) with hz' | hz'
    · exact gm_D_up m x c hc (ih z (by omega) c hc h)
    · obtain rfl : z = x + 1 := by omega
      exact h
theorem gm_D_st (m : gm_mono n P) (hp : 0 < p) {gl : Nat → Prop} : ∀ x, n * p ≤ x → ∀ c, c < n → gm_D n p P A gl x c → gm_D n p P A gl (n * p) c := by
  refine gm_chain hp (gm_D n p P A gl) (gm_D_up m) ?_
  intro y z hyz h c hc h1
  show gm_C n P (A (z % p)) gl (gm_D n p P A gl z) c
  rw [← hyz]
  exact gm_C_mono m (fun t ht hh => (h t ht).1 hh) h1
theorem gm_mulmod (n q j : Nat) (hj : j < q) : (n * q + j) % q = j := by
  rw [Nat.mul_comm, Nat.mul_add_mod, Nat.mod_eq_of_lt hj]
/-- the chase's goal: outside the last siege layer, in guarantee j -/
def gm_gl (n p q : Nat) (P : (Nat → Prop) → Nat → Prop) (A G : Nat → Nat → Prop) (j t : Nat) : Prop := ¬ gm_L n p q P A G (n * q) t ∧ G j t
/-- every state outside the last siege layer lies in the last chase layer -/
theorem gm_det (m : gm_mono n P) (hp : 0 < p) {j : Nat} (hj : j < q) {c : Nat} (hc : c < n) (hL : ¬ gm_L n p q P A G (n * q) c) : gm_D n p P A (gm_gl n p q P A G j) (n * p) c := by
  have hq : 0 < q := by omega
  refine Classical.byContradiction fun hD => hL ?_
  -- the layer of purse n * q + j
  refine gm_L_st m hp hq (n * q + j + 1) (by omega) c hc ?_
  show gm_H n p P A (G ((n * q + j) % q)) (gm_L n p q P A G (n * q + j)) c
  rw [gm_mulmod n q j hj]
  refine gm_H_mono m (gm_L_le m hp (n * q + j) (n * q) (by omega)) ?_
  have hLH : ∀ t, t < n → gm_L n p q P A G (n * q) t → gm_H n p P A (G j) (gm_L n p q P A G (n * q)) t := by
    intro t ht h
    have h1 := gm_L_le m hp (n * q + j + 1) (n * q) (by omega) t ht h
    have h2 : gm_H n p P A (G ((n * q + j) % q)) (gm_L n p q P A G (n * q + j)) t := h1
    rw [gm_mulmod n q j hj] at h2
    exact gm_H_mono m (gm_L_st m hp hq (n * q + j) (by omega)) h2
  have hHL : ∀ t, t < n → gm_H n p P A (G j) (gm_L n p q P A G (n * q)) t → gm_L n p q P A G (n * q) t := by
    intro t ht h
    refine gm_L_st m hp hq (n * q + j + 1) (by omega) t ht ?_
    show gm_H n p P A (G ((n * q + j) % q)) (gm_L n p q P A G (n * q + j)) t
    rw [gm_mulmod n q j hj]
    exact gm_H_mono m (gm_L_le m hp (n * q + j) (n * q) (by omega)) h
  refine ⟨fun t => ¬ gm_D n p P A (gm_gl n p q P A G j) (n * p) t ∨ gm_L n p q P A G (n * q) t, ?_, Or.inl hD⟩
  have hgl' : ∀ t, (gm_gl n p q P A G j) t ↔ (¬ gm_L n p q P A G (n * q) t ∧ G j t) := fun t => Iff.rfl
  -- D as a fixed point for every assumption
  have hDi : ∀ i, i < p → ∀ t, t < n → gm_D n p P A (gm_gl n p q P A G j) (n * p) t → ((gm_gl n p q P A G j) t ∨ (A i t ∧ gm_PS P (gm_D n p P A (gm_gl n p q P A G j) (n * p)) t)) ∨ (¬ A i t ∧ gm_PS P (gm_D n p P A (gm_gl n p q P A G j) (n * p)) t) := by
    intro i hi t ht h
    have h1 := gm_D_le m (n * p + i + 1) (n * p) (by omega) t ht h
    have h2 : gm_C n P (A ((n * p + i) % p)) (gm_gl n p q P A G j) (gm_D n p P A (gm_gl n p q P A G j) (n * p + i)) t := h1
    rw [gm_mulmod n p i hi] at h2
    rcases gm_C_cf m t ht h2 with (h3 | ⟨h3, h4⟩) | ⟨h3, h4⟩
    · exact Or.inl (Or.inl h3)
    · exact Or.inl (Or.inr ⟨h3, gm_PS_mono m _ _ (gm_D_st m hp (n * p + i) (by omega)) t ht h4⟩)
    · refine Or.inr ⟨h3, gm_PS_mono m _ _ (fun s hs hh => ?_) t ht h4⟩
      refine gm_D_st m hp (n * p + i + 1) (by omega) s hs ?_
      show gm_C n P (A ((n * p + i) % p)) (gm_gl n p q P A G j) (gm_D n p P A (gm_gl n p q P A G j) (n * p + i)) s
      rw [gm_mulmod n p i hi]
      exact hh
  have hDf : ∀ i, i < p → ∀ T : Nat → Prop, gm_CF n P (A i) (gm_gl n p q P A G j) (gm_D n p P A (gm_gl n p q P A G j) (n * p)) T → ∀ t, t < n → T t → gm_D n p P A (gm_gl n p q P A G j) (n * p) t := by
    intro i hi T hT t ht h
    refine gm_D_st m hp (n * p + i + 1) (by omega) t ht ?_
    show gm_C n P (A ((n * p + i) % p)) (gm_gl n p q P A G j) (gm_D n p P A (gm_gl n p q P A G j) (n * p + i)) t
    rw [gm_mulmod n p i hi]
    exact gm_C_mono m (gm_D_le m (n * p + i) (n * p) (by omega)) ⟨T, hT, h⟩
  have hng : ∀ t, t < n → ¬ gm_D n p P A (gm_gl n p q P A G j) (n * p) t → ¬ gm_L n p q P A G (n * q) t → ¬ G j t := by
    intro t ht h1 h2 h3
    refine h1 ?_
    refine gm_D_st m hp (n * p + 1) (by omega) t ht ?_
    exact gm_C_fold m (Or.inl (Or.inl ((hgl' t).2 ⟨h2, h3⟩)))
  -- the reach sets hold L
  have hLR : ∀ i, i < p → ∀ t, t < n → gm_L n p q P A G (n * q) t → gm_R n P (gm_gi P (A i) (G j) (gm_L n p q P A G (n * q)) (fun t => ¬ gm_D n p P A (gm_gl n p q P A G j) (n * p) t ∨ gm_L n p q P A G (n * q) t)) (fun t => ¬ G j t) t := by
    intro i hi t ht h
    refine gm_R_mono ?_ ((gm_H_pf m t ht (hLH t ht h)).2 i hi)
    exact gm_gi_mono m (fun _ _ h => h) (fun s hs hh => Or.inr (hHL s hs hh))
  intro t ht hk
  by_cases hLt : gm_L n p q P A G (n * q) t
  · exact ⟨(gm_H_pf m t ht (hLH t ht hLt)).1, fun i hi => hLR i hi t ht hLt⟩
  · have hDt : ¬ gm_D n p P A (gm_gl n p q P A G j) (n * p) t := hk.resolve_right hLt
    refine ⟨Or.inl (hng t ht hDt hLt), fun i hi => ?_⟩
    refine Classical.byContradiction fun hR => hDt ?_
    refine hDf i hi (fun s => ¬ gm_R n P (gm_gi P (A i) (G j) (gm_L n p q P A G (n * q)) (fun t => ¬ gm_D n p P A (gm_gl n p q P A G j) (n * p) t ∨ gm_L n p q P A G (n * q) t)) (fun t => ¬ G j t) s ∨ gm_D n p P A (gm_gl n p q P A G j) (n * p) s) ?_ t ht (Or.inl hR)
    intro s hs hT
    by_cases hDs : gm_D n p P A (gm_gl n p q P A G j) (n * p) s
    · rcases hDi i hi s hs hDs with h | ⟨h1, h2⟩
      · exact Or.inl h
      · exact Or.inr ⟨h1, gm_PS_mono m _ _ (fun _ _ hh => Or.inr hh) s hs h2⟩
    · have hRs := hT.resolve_right hDs
      have hLs : ¬ gm_L n p q P A G (n * q) s := fun h => hRs (hLR i hi s hs h)
      have hgs := hng s hs hDs hLs
      by_cases ha : A i s
      · refine Or.inl (Or.inr ⟨ha, fun hP => hRs ?_⟩)
        exact gm_R_fold m hs (Or.inl (Or.inr ⟨ha, hgs, m _ _ (fun _ _ hh => Or.inl hh) s hs hP⟩))
      · refine Or.inr ⟨ha, fun hP => hRs ?_⟩
        refine gm_R_fold m hs (Or.inr ⟨hgs, m _ _ (fun r _ hh => ?_) s hs hP⟩)
        exact Classical.byContradiction fun h => hh (Or.inl h)
/-- the distance rows; Q 0 is empty -/
def gm_Q (P : (Nat → Prop) → Nat → Prop) (T a : Nat → Prop) : Nat → Nat → Prop
  | 0 => fun _ => False
  | k + 1 => fun c => T c ∧ (a c ∨ P (gm_Q P T a k) c)
theorem gm_Q_up (m : gm_mono n P) {T a : Nat → Prop} : ∀ k c, c < n → gm_Q P T a k c → gm_Q P T a (k + 1) c := by
  intro k
  induction k with
  | zero => intro c _ h; exact False.elim h
  | succ k ih =>
    intro c hc h
    refine ⟨h.1, ?_⟩
    rcases h.2 with h1 | h1
    · exact Or.inl h1
    · exact Or.inr (m _ _ ih c hc h1)
theorem gm_Q_le (m : gm_mono n P) {T a : Nat → Prop} : ∀ x z, z ≤ x → ∀ c, c < n → gm_Q P T a z c → gm_Q P T a x c := by
  intro x
  induction x with
  | zero =>
    intro z hz c _ h
    obtain rfl : z = 0 := by omega
    exact h
  | succ x ih =>
    intro z hz c hc h
    rcases Nat.lt_or_ge z (x + 1) with hz' | hz'
    · exact gm_Q_up m x c hc (ih z (by omega) c hc h)
    · obtain rfl : z = x + 1 := by omega
      exact h
theorem gm_Q_st (m : gm_mono n P) {T a : Nat → Prop} : ∀ x, n ≤ x → ∀ c, c < n → gm_Q P T a x c → gm_Q P T a n c := by
  have h := gm_chain (n := n) (q := 1) (by omega) (gm_Q P T a) (gm_Q_up m) (fun y z _ h c hc h1 => ⟨h1.1, h1.2.imp id (fun h2 => m _ _ (fun t ht => (h t ht).1) c hc h2)⟩)
  rw [Nat.mul_one] at h
  exact h
/-- every state of a layer reaches assumption i inside the layer, in n rows -/
theorem gm_Q_all (m : gm_mono n P) (hp : 0 < p) {i : Nat} (hi : i < p) (y : Nat) : ∀ c, c < n → gm_L n p q P A G y c → gm_Q P (gm_L n p q P A G y) (A i) n c := by
  have key : ∀ z, z ≤ y → ∀ c, c < n → gm_L n p q P A G z c → gm_Q P (gm_L n p q P A G y) (A i) n c := by
    intro z
    induction z with
    | zero => intro _ c _ h; exact False.elim h
    | succ z ih =>
      intro hz c hc h
      refine gm_H_ind m hp hi (gm_Q P (gm_L n p q P A G y) (A i) n) ?_ hc h
      intro t ht hH h1
      have hT := gm_L_le m hp y (z + 1) hz t ht hH
      refine gm_Q_st m (n + 1) (by omega) t ht ⟨hT, ?_⟩
      rcases h1 with ⟨_, h2⟩ | ⟨h2, _, _⟩ | ⟨_, h2⟩
      · exact Or.inr (m _ _ (ih (by omega)) t ht h2)
      · exact Or.inl h2
      · exact Or.inr (m _ _ (fun s _ hh => hh.2) t ht h2)
  exact key y (Nat.le_refl y)
end
end
section
/-! ===== the reference's positions: k = purse * 8 + state ===== -/
section
variable {n p q : Nat} {P : (Nat → Prop) → Nat → Prop} {A G : Nat → Nat → Prop}
def gm_rest (q : Nat) (G : Nat → Nat → Prop) (k r : Nat) : Prop := (G (k / 8 % q) (k % 8) ∧ k / 8 = r + 1) ∨ (¬ G (k / 8 % q) (k % 8) ∧ k / 8 = r)
def gm_St (q : Nat) (P : (Nat → Prop) → Nat → Prop) (a : Nat → Prop) (G : Nat → Nat → Prop) (M S : Nat → Prop) (k : Nat) : Prop := ∃ r, gm_rest q G k r ∧ ((a (k % 8) ∧ P (fun t => M (r * 8 + t)) (k % 8)) ∨ P (fun t => S (r * 8 + t)) (k % 8))
def gm_YR (q : Nat) (P : (Nat → Prop) → Nat → Prop) (a : Nat → Prop) (G : Nat → Nat → Prop) (M : Nat → Prop) (k : Nat) : Prop := ∀ S : Nat → Prop, (∀ k, k < 192 → M k → gm_St q P a G M S k → S k) → S k
theorem gm_St_mono (m : gm_mono n P) {a : Nat → Prop} {M S S' : Nat → Prop} (h : ∀ k, S k → S' k) {k : Nat} (hk : k % 8 < n) (h1 : gm_St q P a G M S k) : gm_St q P a G M S' k := by
  obtain ⟨r, hr, h2⟩ := h1
  refine ⟨r, hr, ?_⟩
  rcases h2 with h2 | h2
  · exact Or.inl h2
  · exact Or.inr (m _ _ (fun t _ hh => h _ hh) _ hk h2)
theorem gm_YR_fold (m : gm_mono n P) {a : Nat → Prop} {M : Nat → Prop} {k : Nat} (hk : k < 192) (hn : k % 8 < n) (hM : M k) (h : gm_St q P a G M (gm_YR q P a G M) k) : gm_YR q P a G M k := by
  intro S hS
  exact hS k hk hM (gm_St_mono m (fun k hh => hh S hS) hn h)
/-- the layers stay inside every reach of a set that holds them -/
theorem gm_Y_sub (m : gm_mono n P) (hp : 0 < p) (hn : n ≤ 8) (h0 : ∀ c, c < n → ¬ P (fun _ => False) c) {i : Nat} (hi : i < p) {M : Nat → Prop} (hM : ∀ y c, y < 24 → c < n → gm_L n p q P A G (y + 1) c → M (y * 8 + c)) : ∀ y c, y < 24 → c < n → gm_L n p q P A G (y + 1) c → gm_YR q P (A i) G M (y * 8 + c) := by
  intro y
  induction y using Nat.strongRecOn with
  | _ y ih =>
    intro c hy hc hL S hS
    refine gm_H_ind m hp hi (fun t => S (y * 8 + t)) ?_ hc hL
    intro t ht hH h1
    refine hS (y * 8 + t) (by omega) (hM y t hy ht hH) ?_
    have e1 : (y * 8 + t) / 8 = y := by omega
    have e2 : (y * 8 + t) % 8 = t := by omega
    unfold gm_St gm_rest
    rw [e1, e2]
    rcases h1 with ⟨h2, h3⟩ | ⟨h2, h3, h4⟩ | ⟨h3, h4⟩
    · cases y with
      | zero => exact absurd h3 (h0 t ht)
      | succ r => exact ⟨r, Or.inl ⟨h2, rfl⟩, Or.inr (m _ _ (fun s hs hh => ih r (by omega) s (by omega) hs hh S hS) t ht h3)⟩
    · exact ⟨y, Or.inr ⟨h3, rfl⟩, Or.inl ⟨h2, m _ _ (fun s hs hh => hM y s hy hs hh) t ht h4⟩⟩
    · exact ⟨y, Or.inr ⟨h3, rfl⟩, Or.inr (m _ _ (fun s _ hh => hh.2) t ht h4)⟩
/-- a set inside all its reaches lies inside the layers -/
theorem gm_Y_sup (m : gm_mono n P) (hp : 0 < p) (hn : n ≤ 8) {M : Nat → Prop} (hMn : ∀ k, k < 192 → M k → k % 8 < n) (hM : ∀ i, i < p → ∀ k, k < 192 → M k → gm_YR q P (A i) G M k) : ∀ y c, y < 24 → c < n → M (y * 8 + c) → gm_L n p q P A G (y + 1) c := by
  intro y
  induction y using Nat.strongRecOn with
  | _ y ih =>
    intro c hy hc hMc
    have hex : ∀ t, t < n → M (y * 8 + t) → G (y % q) t → P (gm_L n p q P A G y) t := by
      intro t ht hMt hg
      have e1 : (y * 8 + t) / 8 = y := by omega
      have e2 : (y * 8 + t) % 8 = t := by omega
      have h1 := hM 0 hp (y * 8 + t) (by omega) hMt
      have h2 : gm_St q P (A 0) G M M (y * 8 + t) := by
        refine (h1 (fun k => M k ∧ gm_St q P (A 0) G M M k) ?_).2
        intro k hk hMk hSt
        exact ⟨hMk, gm_St_mono m (fun _ hh => hh.1) (hMn k hk hMk) hSt⟩
      unfold gm_St gm_rest at h2
      rw [e1, e2] at h2
      obtain ⟨r, hr, h3⟩ := h2
      have h4 : P (fun s => M (r * 8 + s)) t := h3.elim (fun h => h.2) id
      rcases hr with ⟨_, hr⟩ | ⟨hr, _⟩
      · subst hr
        exact m _ _ (fun s hs hh => ih r (by omega) s (by omega) hs hh) t ht h4
      · exact absurd hg hr
    refine ⟨fun t => M (y * 8 + t), ?_, hMc⟩
    intro t ht hMt
    refine ⟨?_, fun i hi => ?_⟩
    · by_cases hg : G (y % q) t
      · exact Or.inr ⟨hg, hex t ht hMt hg⟩
      · exact Or.inl hg
    · have hY := hM i hi (y * 8 + t) (by omega) hMt
      refine (hY (fun k => M k ∧ ∀ s, s < n → k = y * 8 + s → gm_R n P (gm_gi P (A i) (G (y % q)) (gm_L n p q P A G y) (fun t => M (y * 8 + t))) (fun t => ¬ G (y % q) t) s) ?_).2 t ht rfl
      intro k hk hMk hSt
      refine ⟨hMk, fun s hs hks => ?_⟩
      subst hks
      have e1 : (y * 8 + s) / 8 = y := by omega
      have e2 : (y * 8 + s) % 8 = s := by omega
      unfold gm_St gm_rest at hSt
      rw [e1, e2] at hSt
      obtain ⟨r, hr, h3⟩ := hSt
      rcases hr with ⟨hg, _⟩ | ⟨hg, hr⟩
      · exact gm_R_fold m hs (Or.inl (Or.inl ⟨hg, hex s hs hMk hg⟩))
      · subst hr
        rcases h3 with ⟨ha, h4⟩ | h4
        · exact gm_R_fold m hs (Or.inl (Or.inr ⟨ha, hg, h4⟩))
        · exact gm_R_fold m hs (Or.inr ⟨hg, m _ _ (fun r hr hh => hh.2 r hr rfl) s hs h4⟩)
/-- the failing positions of a chase with goal gl -/
def gm_FS (p : Nat) (P : (Nat → Prop) → Nat → Prop) (A : Nat → Nat → Prop) (S : Nat → Prop) (k : Nat) : Prop := (A (k / 8 % p) (k % 8) ∧ k / 8 = 0) ∨ ∃ r, gm_rest p A k r ∧ P (fun t => S (r * 8 + t)) (k % 8)
def gm_YF (n p : Nat) (P : (Nat → Prop) → Nat → Prop) (A : Nat → Nat → Prop) (gl : Nat → Prop) (k : Nat) : Prop := ∀ S : Nat → Prop, (∀ k, k < 192 → k % 8 < n → ¬ gl (k % 8) → gm_FS p P A S k → S k) → S k
theorem gm_FS_mono (m : gm_mono n P) {S S' : Nat → Prop} (h : ∀ k, S k → S' k) {k : Nat} (hk : k % 8 < n) (h1 : gm_FS p P A S k) : gm_FS p P A S' k := by
  rcases h1 with h1 | ⟨r, hr, h1⟩
  · exact Or.inl h1
  · exact Or.inr ⟨r, hr, m _ _ (fun t _ hh => h _ hh) _ hk h1⟩
theorem gm_YF_fold (m : gm_mono n P) {gl : Nat → Prop} {k : Nat} (hk : k < 192) (hn : k % 8 < n) (hg : ¬ gl (k % 8)) (h : gm_FS p P A (gm_YF n p P A gl) k) : gm_YF n p P A gl k := by
  intro S hS
  exact hS k hk hn hg (gm_FS_mono m (fun k hh => hh S hS) hn h)
theorem gm_YF_to (m : gm_mono n P) (hn : n ≤ 8) (h1 : ∀ c, c < n → P (fun _ => True) c) {gl : Nat → Prop} {x c : Nat} (hc : c < n) (h : gm_YF n p P A gl (x * 8 + c)) : ¬ gm_D n p P A gl (x + 1) c := by
  have key := h (fun k => k % 8 < n → ¬ gm_D n p P A gl (k / 8 + 1) (k % 8)) ?_ (by omega)
  · rwa [show (x * 8 + c) / 8 = x from by omega, show (x * 8 + c) % 8 = c from by omega] at key
  · intro k _ hkn hg hF _ hD
    rcases gm_C_cf m (k % 8) hkn hD with (h2 | ⟨h2, h3⟩) | ⟨h2, h3⟩
    · exact hg h2
    · rcases hF with ⟨_, hF⟩ | ⟨r, hr, hF⟩
      · rw [hF] at h3
        exact h3 (m _ _ (fun _ _ _ hh => hh) _ hkn (h1 _ hkn))
      · rcases hr with ⟨_, hr⟩ | ⟨hr, _⟩
        · rw [hr] at h3
          refine h3 (m _ _ (fun t ht hh => ?_) _ hkn hF)
          have h4 := hh (by omega)
          rwa [show (r * 8 + t) / 8 = r from by omega, show (r * 8 + t) % 8 = t from by omega] at h4
        · exact hr h2
    · rcases hF with ⟨hF, _⟩ | ⟨r, hr, hF⟩
      · exact h2 hF
      · rcases hr with ⟨hr, _⟩ | ⟨_, hr⟩
        · exact h2 hr
        · refine h3 (m _ _ (fun t ht hh => ?_) _ hkn hF)
          have h4 := hh (by omega)
          rw [show (r * 8 + t) / 8 = r from by omega, show (r * 8 + t) % 8 = t from by omega] at h4
          rw [hr]
          exact h4
theorem gm_YF_of (m : gm_mono n P) (hn : n ≤ 8) {gl : Nat → Prop} : ∀ x c, x < 24 → c < n → ¬ gm_YF n p P A gl (x * 8 + c) → gm_D n p P A gl (x + 1) c := by
  intro x
  induction x using Nat.strongRecOn with
  | _ x ih =>
    intro c hx hc h
    refine ⟨fun t => ¬ gm_YF n p P A gl (x * 8 + t), ?_, h⟩
    intro t ht hF
    by_cases hg : gl t
    · exact Or.inl (Or.inl hg)
    · have e1 : (x * 8 + t) / 8 = x := by omega
      have e2 : (x * 8 + t) % 8 = t := by omega
      have hfold : ((A (x % p) t ∧ x = 0) ∨ ∃ r, ((A (x % p) t ∧ x = r + 1) ∨ (¬ A (x % p) t ∧ x = r)) ∧ P (fun t => gm_YF n p P A gl (r * 8 + t)) t) → False := by
        intro h2
        refine hF (gm_YF_fold m (by omega) (by omega) (by rw [e2]; exact hg) ?_)
        unfold gm_FS gm_rest
        rw [e1, e2]
        exact h2
      by_cases ha : A (x % p) t
      · refine Or.inl (Or.inr ⟨ha, fun hP => hfold ?_⟩)
        cases x with
        | zero => exact Or.inl ⟨ha, rfl⟩
        | succ r =>
          refine Or.inr ⟨r, Or.inl ⟨ha, rfl⟩, m _ _ (fun s hs hh => ?_) t ht hP⟩
          exact Classical.byContradiction fun h3 => hh (ih r (by omega) s (by omega) hs h3)
      · refine Or.inr ⟨ha, fun hP => hfold (Or.inr ⟨x, Or.inr ⟨ha, rfl⟩, m _ _ (fun s _ hh => ?_) t ht hP⟩)⟩
        exact Classical.byContradiction fun h3 => hh h3
end
end
section
/-! ===== the game's own predecessor; masks as sets of states ===== -/
def gm_pre (n : Nat) (EN : Nat → Prop) (E : Nat → Nat → Prop) (T : Nat → Prop) (c : Nat) : Prop := (EN c → ∃ t, t < n ∧ E c t ∧ T t) ∧ (¬ EN c → ∀ t, t < n → E c t → T t)
theorem gm_pre_mono {n : Nat} {EN : Nat → Prop} {E : Nat → Nat → Prop} : gm_mono n (gm_pre n EN E) := by
  intro S T h c _ h1
  refine ⟨fun e => ?_, fun e t ht ht2 => h t ht (h1.2 e t ht ht2)⟩
  obtain ⟨t, ht, h2, h3⟩ := h1.1 e
  exact ⟨t, ht, h2, h t ht h3⟩
theorem gm_pre_0 {n : Nat} {EN : Nat → Prop} {E : Nat → Nat → Prop} (hE : ∀ c, c < n → ∃ t, t < n ∧ E c t) : ∀ c, c < n → ¬ gm_pre n EN E (fun _ => False) c := by
  intro c hc h
  obtain ⟨t, ht, h1⟩ := hE c hc
  by_cases e : EN c
  · obtain ⟨_, _, _, h2⟩ := h.1 e
    exact h2
  · exact h.2 e t ht h1
theorem gm_pre_1 {n : Nat} {EN : Nat → Prop} {E : Nat → Nat → Prop} (hE : ∀ c, c < n → ∃ t, t < n ∧ E c t) : ∀ c, c < n → gm_pre n EN E (fun _ => True) c := by
  intro c hc
  obtain ⟨t, ht, h1⟩ := hE c hc
  exact ⟨fun _ => ⟨t, ht, h1, True.intro⟩, fun _ _ _ _ => True.intro⟩
/-- mask m holds exactly the states below n of S -/
def ms_of (n : Nat) (m : Int32) (S : Nat → Prop) : Prop := ∀ t, t < 32 → (bt m t = true ↔ (t < n ∧ S t))
theorem ms_and {n : Nat} {a b : Int32} {S T : Nat → Prop} (ha : ms_of n a S) (hb : ms_of n b T) : ms_of n (a &&& b) (fun t => S t ∧ T t) := by
  intro t ht
  rw [b_and, Bool.and_eq_true, ha t ht, hb t ht]
  exact ⟨fun h => ⟨h.1.1, h.1.2, h.2.2⟩, fun h => ⟨⟨h.1, h.2.1⟩, h.1, h.2.2⟩⟩
theorem ms_or {n : Nat} {a b : Int32} {S T : Nat → Prop} (ha : ms_of n a S) (hb : ms_of n b T) : ms_of n (a ||| b) (fun t => S t ∨ T t) := by
  intro t ht
  rw [b_or, Bool.or_eq_true, ha t ht, hb t ht]
  constructor
  · intro h
    rcases h with h | h
    · exact ⟨h.1, Or.inl h.2⟩
    · exact ⟨h.1, Or.inr h.2⟩
  · intro h
    rcases h.2 with h2 | h2
    · exact Or.inl ⟨h.1, h2⟩
    · exact Or.inr ⟨h.1, h2⟩
theorem ms_diff {n : Nat} {a b : Int32} {S T : Nat → Prop} (ha : ms_of n a S) (hb : ms_of n b T) : ms_of n (a &&& (b ^^^ (-1))) (fun t => S t ∧ ¬ T t) := by
  intro t ht
  rw [b_and, b_xor, b_m1 t ht, Bool.and_eq_true, ha t ht, Bool.xor_true, Bool.not_eq_true', ← Bool.not_eq_true, hb t ht]
  exact ⟨fun h => ⟨h.1.1, h.1.2, fun h2 => h.2 ⟨h.1.1, h2⟩⟩, fun h => ⟨⟨h.1, h.2.1⟩, fun h2 => h.2.2 h2.2⟩⟩
theorem ms_0 {n : Nat} : ms_of n 0 (fun _ => False) := by
  intro t _
  rw [b_0]
  exact ⟨fun h => (nomatch h), fun h => False.elim h.2⟩
theorem ms_cg {n : Nat} {a : Int32} {S T : Nat → Prop} (h : ∀ t, t < n → (S t ↔ T t)) (ha : ms_of n a S) : ms_of n a T := by
  intro t ht
  rw [ha t ht]
  exact ⟨fun h1 => ⟨h1.1, (h t h1.1).1 h1.2⟩, fun h1 => ⟨h1.1, (h t h1.1).2 h1.2⟩⟩
theorem ms_eq {n : Nat} {a b : Int32} {S : Nat → Prop} (ha : ms_of n a S) (hb : ms_of n b S) : a = b :=
  b_ext fun i hi => Bool.eq_iff_iff.mpr ((ha i hi).trans (hb i hi).symm)
theorem ms_iff {n : Nat} (hn : n ≤ 8) {a b : Int32} {S T : Nat → Prop} (ha : ms_of n a S) (hb : ms_of n b T) : a = b ↔ ∀ t, t < n → (S t ↔ T t) := by
  constructor
  · intro e t ht
    subst e
    have h1 := ha t (by omega)
    have h2 := hb t (by omega)
    exact ⟨fun h => (h2.1 (h1.2 ⟨ht, h⟩)).2, fun h => (h1.1 (h2.2 ⟨ht, h⟩)).2⟩
  · intro h
    exact ms_eq (ms_cg h ha) hb
theorem ms_z {n : Nat} (hn : n ≤ 8) {a : Int32} {S : Nat → Prop} (ha : ms_of n a S) : a = 0 ↔ ∀ t, t < n → ¬ S t := by
  rw [ms_iff hn ha ms_0]
  exact ⟨fun h t ht => (h t ht).1, fun h t ht => ⟨h t ht, False.elim⟩⟩
theorem ms_b1 : ∀ i, i < 32 → bt 1 i = decide (i = 0) := by decide +kernel
theorem ms_bit {n s : Nat} (hn : n ≤ 8) (hs : s < n) : ms_of n ((1 : Int32) <<< (nI s &&& 31)) (fun t => t = s) := by
  intro t ht
  rw [b_shl s (by omega) 1 ht, ms_b1 (t - s) (by omega), Bool.and_eq_true, decide_eq_true_iff, decide_eq_true_iff]
  constructor
  · intro h
    have e : t = s := by omega
    exact ⟨by omega, e⟩
  · intro h
    have e : t = s := h.2
    omega
theorem ms_fullb : ∀ n, n < 9 → ∀ i, i < 32 → bt (((1 : Int32) <<< (nI n &&& 31)) - 1) i = decide (i < n) := by decide +kernel
theorem ms_full {n : Nat} (hn : n ≤ 8) : ms_of n (((1 : Int32) <<< (nI n &&& 31)) - 1) (fun _ => True) := by
  intro t ht
  rw [ms_fullb n (by omega) t ht, decide_eq_true_iff]
  exact ⟨fun h => ⟨h, True.intro⟩, fun h => h.1⟩
theorem ms_h1 {m : Int32} {s : Nat} (hs : s < 32) (h : bt m s = true) : ((m >>> (nI s &&& 31)) &&& 1) = 1 := by
  refine b_ext fun i hi => ?_
  rw [b_and, b_sshr s hs m hi, ms_b1 i hi]
  by_cases e : i = 0
  · subst e
    rw [if_pos (by omega), Nat.add_zero, h]
    rfl
  · rw [decide_eq_false e, Bool.and_false]
theorem ms_h0 {m : Int32} {s : Nat} (hs : s < 32) (h : bt m s = false) : ((m >>> (nI s &&& 31)) &&& 1) = 0 := by
  refine b_ext fun i hi => ?_
  rw [b_and, b_sshr s hs m hi, ms_b1 i hi, b_0]
  by_cases e : i = 0
  · subst e
    rw [if_pos (by omega), Nat.add_zero, h]
    rfl
  · rw [decide_eq_false e, Bool.and_false]
theorem ms_mem {n : Nat} (hn : n ≤ 8) {m : Int32} {S : Nat → Prop} (h : ms_of n m S) {s : Nat} (hs : s < n) : bt m s = true ↔ S s := by
  rw [h s (by omega)]
  exact ⟨fun h => h.2, fun h => ⟨hs, h⟩⟩
theorem ms_nmem {n : Nat} (hn : n ≤ 8) {m : Int32} {S : Nat → Prop} (h : ms_of n m S) {s : Nat} (hs : s < n) : bt m s = false ↔ ¬ S s := by
  rw [← ms_mem hn h hs, Bool.not_eq_true]
theorem ms_ne10 : ¬ (1 : Int32) = 0 := by decide
/-- the games of both sides: n states, owners, successors -/
def gx_g (n : Nat) (EN : Nat → Prop) (E : Nat → Nat → Prop) (fn : Int32) (ow su : Nat → Int32) : Prop := fn = nI n ∧ 2 ≤ n ∧ n ≤ 8 ∧ (∀ c, c < n → (ow c = 0 ∧ EN c) ∨ (ow c = 1 ∧ ¬ EN c)) ∧ (∀ c, c < n → ms_of n (su c) (E c)) ∧ (∀ c, c < n → ∃ t, t < n ∧ E c t)
/-- k sets of states -/
def gx_s (n k : Nat) (A : Nat → Nat → Prop) (fk : Int32) (as : Nat → Int32) : Prop := fk = nI k ∧ 1 ≤ k ∧ k ≤ 3 ∧ ∀ i, i < k → ms_of n (as i) (A i)
end
section
/-! ===== X: sets computed by pre, reach, shrinkHeld, siegeLayer, chaseLayer ===== -/
section
variable {n p q : Nat} {EN : Nat → Prop} {E A G : Nat → Nat → Prop}
variable {f_n f_p f_q f_full f_solved f_won f_lost f_playing f_tokenState f_awaitedNumber : Int32}
variable {a_owners a_succ a_assume a_guar a_siegeLayers a_doomOf a_debtOf a_distOf : Nat → Int32}
theorem xx_has {post : Int32 → Prop} {m : Int32} {s : Nat} (hs : s < 32) (h1 : bt m s = true → post 1) (h0 : bt m s = false → post 0) : wpX_has post (f_n, f_p, f_q, f_full, f_solved, f_won, f_lost, f_playing, f_tokenState, f_awaitedNumber, a_owners, a_succ, a_assume, a_guar, a_siegeLayers, a_doomOf, a_debtOf, a_distOf) m (nI s) := by
  cases h : bt m s with
  | false => exact br_t (ms_h0 hs h) (h0 h)
  | true => exact br_f (by rw [ms_h1 hs h]; exact ms_ne10) (h1 h)
theorem xx_has_s {post : Int32 → Prop} {m : Int32} {S : Nat → Prop} {s : Nat} (hn : n ≤ 8) (hs : s < n) (hm : ms_of n m S) (h1 : S s → post 1) (h0 : ¬ S s → post 0) : wpX_has post (f_n, f_p, f_q, f_full, f_solved, f_won, f_lost, f_playing, f_tokenState, f_awaitedNumber, a_owners, a_succ, a_assume, a_guar, a_siegeLayers, a_doomOf, a_debtOf, a_distOf) m (nI s) :=
  xx_has (by omega) (fun h => h1 ((ms_mem hn hm hs).1 h)) (fun h => h0 ((ms_nmem hn hm hs).1 h))
theorem xx_pre52 {post : Int32 → Prop} {J : Int32 → Int32 → Prop} {x1 x2 x3 x5 z0 : Int32} {s : Nat} {Q : Prop} (hs : s < 8) (h5 : x5 = 0 ∨ x5 = 1) (hz : z0 = 0 ∨ z0 = 1) (hQ : Q ↔ ((a_owners s = x1 → x5 = 1) ∧ (¬ a_owners s = x1 → z0 = 1))) (hJ1 : Q → J (x3 ||| ((1 : Int32) <<< (nI s &&& 31))) (nI (s + 1))) (hJ0 : ¬ Q → J x3 (nI (s + 1))) : wX_pre_52 post J x1 x2 x3 (nI s) x5 z0 f_n f_p f_q f_full f_solved f_won f_lost f_playing f_tokenState f_awaitedNumber a_owners a_succ a_assume a_guar a_siegeLayers a_doomOf a_debtOf a_distOf := by
  have cl : (nI s).toNatClampNeg = s := nI_clamp (by omega)
  have h78 : Q → wX_pre_78 post J x1 x2 x3 (nI s) f_n f_p f_q f_full f_solved f_won f_lost f_playing f_tokenState f_awaitedNumber a_owners a_succ a_assume a_guar a_siegeLayers a_doomOf a_debtOf a_distOf := fun h => nm_e (nm_r (nI_1 s) (hJ1 h))
  refine ⟨vp_in_nI hs (by omega), ?_⟩
  rw [cl]
  refine br_c (fun ho => ?_) (fun ho => ?_)
  · rcases h5 with h5 | h5
    · refine br_t h5 (nm_r (nI_1 s) (hJ0 fun hq => ?_))
      have h1 := (hQ.1 hq).1 ho
      rw [h5] at h1
      exact ms_ne10 h1.symm
    · exact br_f (by rw [h5]; exact ms_ne10) (h78 (hQ.2 ⟨fun _ => h5, fun h => absurd ho h⟩))
  · rcases hz with hz | hz
    · refine br_t hz (nm_r (nI_1 s) (hJ0 fun hq => ?_))
      have h1 := (hQ.1 hq).2 ho
      rw [hz] at h1
      exact ms_ne10 h1.symm
    · exact br_f (by rw [hz]; exact ms_ne10) (h78 (hQ.2 ⟨fun h => absurd h ho, fun _ => hz⟩))
theorem xx_pre31 {post : Int32 → Prop} {J : Int32 → Int32 → Prop} {x1 x2 x3 z0 : Int32} {s : Nat} {T : Nat → Prop} {Q : Prop} (g : gx_g n EN E f_n a_owners a_succ) (hT : ms_of n x2 T) (hs : s < n) (hz : z0 = 0 ∨ z0 = 1) (hz1 : z0 = 1 ↔ ∃ t, t < n ∧ E s t ∧ T t) (hQ : Q ↔ ((a_owners s = x1 → ∃ t, t < n ∧ E s t ∧ T t) ∧ (¬ a_owners s = x1 → ∀ t, t < n → E s t → T t))) (hJ1 : Q → J (x3 ||| ((1 : Int32) <<< (nI s &&& 31))) (nI (s + 1))) (hJ0 : ¬ Q → J x3 (nI (s + 1))) : wX_pre_31 post J x1 x2 x3 (nI s) z0 f_n f_p f_q f_full f_solved f_won f_lost f_playing f_tokenState f_awaitedNumber a_owners a_succ a_assume a_guar a_siegeLayers a_doomOf a_debtOf a_distOf := by
  obtain ⟨_, _, hn, _, hE, _⟩ := g
  have cl : (nI s).toNatClampNeg = s := nI_clamp (by omega)
  refine ⟨vp_in_nI (by omega) (by omega), ?_⟩
  rw [cl]
  have hd := ms_z hn (ms_diff (hE s hs) hT)
  refine br_c (fun h => ?_) (fun h => ?_)
  · have h1 : ∀ t, t < n → E s t → T t := fun t ht he => Classical.byContradiction fun hh => (hd.1 h t ht) ⟨he, hh⟩
    refine xx_pre52 (by omega) hz (Or.inr rfl) (Q := Q) ?_ hJ1 hJ0
    rw [hQ, hz1]
    exact ⟨fun h2 => ⟨h2.1, fun _ => rfl⟩, fun h2 => ⟨h2.1, fun _ => h1⟩⟩
  · have h1 : ¬ ∀ t, t < n → E s t → T t := fun h2 => h (hd.2 fun t ht hh => hh.2 (h2 t ht hh.1))
    refine xx_pre52 (by omega) hz (Or.inl rfl) (Q := Q) ?_ hJ1 hJ0
    rw [hQ, hz1]
    exact ⟨fun h2 => ⟨h2.1, fun h3 => absurd (h2.2 h3) h1⟩, fun h2 => ⟨h2.1, fun h3 => absurd (h2.2 h3).symm ms_ne10⟩⟩
theorem xx_pre5 {post : Int32 → Prop} {x1 x2 : Int32} {T Q : Nat → Prop} (g : gx_g n EN E f_n a_owners a_succ) (hT : ms_of n x2 T) (hQ : ∀ c, c < n → (Q c ↔ ((a_owners c = x1 → ∃ t, t < n ∧ E c t ∧ T t) ∧ (¬ a_owners c = x1 → ∀ t, t < n → E c t → T t)))) (h : ∀ r, ms_of n r Q → post r) : ∀ d s x3, s + d = n → ms_of n x3 (fun t => t < s ∧ Q t) → wX_pre_5 post x1 x2 f_n f_p f_q f_full f_solved f_won f_lost f_playing f_tokenState f_awaitedNumber a_owners a_succ a_assume a_guar a_siegeLayers a_doomOf a_debtOf a_distOf (d + 1) x3 (nI s) := by
  have hn8 : n ≤ 8 := g.2.2.1
  have hfn : f_n = nI n := g.1
  intro d
  induction d with
  | zero =>
    intro s x3 hs hx
    refine br_t (by rw [hfn]; exact nI_le (by omega) (by omega)) (h x3 (ms_cg (fun t ht => ?_) hx))
    exact ⟨fun h => h.2, fun h => ⟨by omega, h⟩⟩
  | succ d ih =>
    intro s x3 hs hx
    have hsn : s < n := by omega
    have cl : (nI s).toNatClampNeg = s := nI_clamp (by omega)
    have hJ1 : Q s → wX_pre_5 post x1 x2 f_n f_p f_q f_full f_solved f_won f_lost f_playing f_tokenState f_awaitedNumber a_owners a_succ a_assume a_guar a_siegeLayers a_doomOf a_debtOf a_distOf (d + 1) (x3 ||| ((1 : Int32) <<< (nI s &&& 31))) (nI (s + 1)) := by
      intro hq
      refine ih (s + 1) _ (by omega) (ms_cg (fun t ht => ?_) (ms_or hx (ms_bit hn8 hsn)))
      constructor
      · intro h1
        rcases h1 with h1 | h1
        · exact ⟨by omega, h1.2⟩
        · exact ⟨by omega, by rw [h1]; exact hq⟩
      · intro h1
        by_cases e : t = s
        · exact Or.inr e
        · exact Or.inl ⟨by omega, h1.2⟩
    have hJ0 : ¬ Q s → wX_pre_5 post x1 x2 f_n f_p f_q f_full f_solved f_won f_lost f_playing f_tokenState f_awaitedNumber a_owners a_succ a_assume a_guar a_siegeLayers a_doomOf a_debtOf a_distOf (d + 1) x3 (nI (s + 1)) := by
      intro hq
      refine ih (s + 1) _ (by omega) (ms_cg (fun t ht => ?_) hx)
      constructor
      · intro h1; exact ⟨by omega, h1.2⟩
      · intro h1
        have e : t ≠ s := fun e => hq (e ▸ h1.2)
        exact ⟨by omega, h1.2⟩
    refine br_f (by rw [hfn]; exact nI_ge (by omega) (by omega)) ⟨vp_in_nI (by omega) (by omega), ?_⟩
    rw [cl]
    have hz := ms_z hn8 (ms_and (g.2.2.2.2.1 s hsn) hT)
    refine br_c (fun h0 => ?_) (fun h0 => ?_)
    · refine xx_pre31 g hT hsn (Or.inl rfl) ?_ (hQ s hsn) hJ1 hJ0
      refine ⟨fun h1 => absurd h1.symm ms_ne10, fun h1 => ?_⟩
      obtain ⟨t, ht, h2⟩ := h1
      exact absurd h2 (hz.1 h0 t ht)
    · refine xx_pre31 g hT hsn (Or.inr rfl) ?_ (hQ s hsn) hJ1 hJ0
      refine ⟨fun _ => ?_, fun _ => rfl⟩
      refine Classical.byContradiction fun h1 => h0 (hz.2 fun t ht h2 => h1 ⟨t, ht, h2⟩)
theorem xx_pre0 {post : Int32 → Prop} {x2 : Int32} {T : Nat → Prop} (g : gx_g n EN E f_n a_owners a_succ) (hT : ms_of n x2 T) (h : ∀ r, ms_of n r (gm_pre n EN E T) → post r) : wpX_pre post (f_n, f_p, f_q, f_full, f_solved, f_won, f_lost, f_playing, f_tokenState, f_awaitedNumber, a_owners, a_succ, a_assume, a_guar, a_siegeLayers, a_doomOf, a_debtOf, a_distOf) 0 x2 := by
  refine ⟨n + 1, xx_pre5 (Q := gm_pre n EN E T) g hT ?_ h n 0 0 (by omega) (ms_cg (fun t _ => ⟨False.elim, fun h => by omega⟩) ms_0)⟩
  intro c hc
  rcases g.2.2.2.1 c hc with ⟨h1, h2⟩ | ⟨h1, h2⟩
  · exact ⟨fun h3 => ⟨fun _ => h3.1 h2, fun h4 => absurd h1 h4⟩, fun h3 => ⟨fun _ => h3.1 h1, fun h4 => absurd h2 h4⟩⟩
  · have h5 : ¬ a_owners c = 0 := by rw [h1]; exact ms_ne10
    exact ⟨fun h3 => ⟨fun h4 => absurd h4 h5, fun _ => h3.2 h2⟩, fun h3 => ⟨fun h4 => absurd h4 h2, fun _ => h3.2 h5⟩⟩
theorem xx_pre1 {post : Int32 → Prop} {x2 : Int32} {T : Nat → Prop} (g : gx_g n EN E f_n a_owners a_succ) (hT : ms_of n x2 T) (h : ∀ r, ms_of n r (gm_PS (gm_pre n EN E) T) → post r) : wpX_pre post (f_n, f_p, f_q, f_full, f_solved, f_won, f_lost, f_playing, f_tokenState, f_awaitedNumber, a_owners, a_succ, a_assume, a_guar, a_siegeLayers, a_doomOf, a_debtOf, a_distOf) 1 x2 := by
  refine ⟨n + 1, xx_pre5 (Q := gm_PS (gm_pre n EN E) T) g hT ?_ h n 0 0 (by omega) (ms_cg (fun t _ => ⟨False.elim, fun h => by omega⟩) ms_0)⟩
  intro c hc
  rcases g.2.2.2.1 c hc with ⟨h1, h2⟩ | ⟨h1, h2⟩
  · have h5 : ¬ a_owners c = 1 := by rw [h1]; exact fun h => ms_ne10 h.symm
    constructor
    · intro h3
      refine ⟨fun h4 => absurd h4 h5, fun _ t ht he => Classical.byContradiction fun hh => h3 ⟨fun _ => ⟨t, ht, he, hh⟩, fun h4 => absurd h2 h4⟩⟩
    · intro h3 h4
      obtain ⟨t, ht, he, hh⟩ := h4.1 h2
      exact hh (h3.2 h5 t ht he)
  · constructor
    · intro h3
      refine ⟨fun _ => Classical.byContradiction fun hh => h3 ⟨fun h4 => absurd h4 h2, fun _ t ht he h6 => hh ⟨t, ht, he, h6⟩⟩, fun h4 => absurd h1 h4⟩
    · intro h3 h4
      obtain ⟨t, ht, he, h6⟩ := h3.1 h1
      exact h4.2 h2 t ht he h6
theorem xx_reach5 {post : Int32 → Prop} {x2 : Int32} {gl op : Nat → Prop} (g : gx_g n EN E f_n a_owners a_succ) (ho : ms_of n x2 op) (h : ∀ r, ms_of n r (gm_R n (gm_pre n EN E) gl op) → post r) : ∀ d s x3, ∀ R : Nat → Prop, s + d = n + 1 → ms_of n x3 R → (∀ t, t < n → R t → gm_R n (gm_pre n EN E) gl op t) → (∀ t, t < n → gl t → R t) → s ≤ gm_cn R n → wX_reach_5 post x2 f_n f_p f_q f_full f_solved f_won f_lost f_playing f_tokenState f_awaitedNumber a_owners a_succ a_assume a_guar a_siegeLayers a_doomOf a_debtOf a_distOf (d + 1) x3 (nI s) := by
  have hn8 : n ≤ 8 := g.2.2.1
  have hfn : f_n = nI n := g.1
  intro d
  induction d with
  | zero =>
    intro s x3 R hs _ _ _ hc
    have h1 := gm_cn_le R n
    omega
  | succ d ih =>
    intro s x3 R hs hx hR hg hc
    refine br_f (by rw [hfn]; exact nI_nlt (by omega) (by omega)) (xx_pre0 g hx fun r hr => nm_e ?_)
    have hx' : ms_of n (x3 ||| (x2 &&& r)) (fun t => R t ∨ (op t ∧ gm_pre n EN E R t)) := ms_or hx (ms_and ho hr)
    refine br_c (fun he => h x3 (ms_cg (fun t ht => ⟨hR t ht, fun h1 => ?_⟩) hx)) (fun he => nm_r (nI_1 s) (ih (s + 1) _ _ (by omega) hx' ?_ (fun t ht h1 => Or.inl (hg t ht h1)) ?_))
    · have h2 := (ms_iff hn8 hx' hx).1 he
      refine h1 (fun t => t < n → R t) ?_ ht
      intro s hs h3 _
      rcases h3 with h3 | ⟨h3, h4⟩
      · exact hg s hs h3
      · exact (h2 s hs).1 (Or.inr ⟨h3, gm_pre_mono _ _ (fun r hr hh => hh hr) s hs h4⟩)
    · intro t ht h1
      rcases h1 with h1 | ⟨h1, h2⟩
      · exact hR t ht h1
      · exact gm_R_fold gm_pre_mono ht (Or.inr ⟨h1, gm_pre_mono _ _ hR t ht h2⟩)
    · have h1 : ∃ t, t < n ∧ (R t ∨ (op t ∧ gm_pre n EN E R t)) ∧ ¬ R t := by
        refine Classical.byContradiction fun hh => he ((ms_iff hn8 hx' hx).2 fun t ht => ⟨fun h2 => ?_, Or.inl⟩)
        exact Classical.byContradiction fun h3 => hh ⟨t, ht, h2, h3⟩
      obtain ⟨t, ht, h2, h3⟩ := h1
      have h4 := gm_cn_lt (S := R) (T := fun t => R t ∨ (op t ∧ gm_pre n EN E R t)) n (fun t _ => Or.inl) t ht h2 h3
      omega
theorem xx_reach {post : Int32 → Prop} {x1 x2 : Int32} {gl op : Nat → Prop} (g : gx_g n EN E f_n a_owners a_succ) (hg : ms_of n x1 gl) (ho : ms_of n x2 op) (h : ∀ r, ms_of n r (gm_R n (gm_pre n EN E) gl op) → post r) : wpX_reach post (f_n, f_p, f_q, f_full, f_solved, f_won, f_lost, f_playing, f_tokenState, f_awaitedNumber, a_owners, a_succ, a_assume, a_guar, a_siegeLayers, a_doomOf, a_debtOf, a_distOf) x1 x2 :=
  ⟨n + 1 + 1, xx_reach5 g ho h (n + 1) 0 x1 gl (by omega) hg (fun t ht h1 => gm_R_fold gm_pre_mono ht (Or.inl h1)) (fun _ _ h => h) (Nat.zero_le _)⟩
theorem xx_shrink16 {post : Int32 → Prop} {x2 x3 x4 : Int32} {gu B K : Nat → Prop} (g : gx_g n EN E f_n a_owners a_succ) (ha : gx_s n p A f_p a_assume) (h2 : ms_of n x2 (fun t => ¬ gu t)) (h3 : ms_of n x3 (fun t => gu t ∧ gm_pre n EN E B t)) (h4 : ms_of n x4 (fun t => ¬ gu t ∧ gm_pre n EN E K t)) (h : ∀ r, ms_of n r (fun t => K t ∧ ∀ i, i < p → gm_R n (gm_pre n EN E) (gm_gi (gm_pre n EN E) (A i) gu B K) (fun t => ¬ gu t) t) → post r) : ∀ d i x5, i + d = p → ms_of n x5 (fun t => K t ∧ ∀ j, j < i → gm_R n (gm_pre n EN E) (gm_gi (gm_pre n EN E) (A j) gu B K) (fun t => ¬ gu t) t) → wX_shrinkHeld_16 post x2 x3 x4 f_n f_p f_q f_full f_solved f_won f_lost f_playing f_tokenState f_awaitedNumber a_owners a_succ a_assume a_guar a_siegeLayers a_doomOf a_debtOf a_distOf (d + 1) x5 (nI i) := by
  obtain ⟨hfp, hp1, hp3, hA⟩ := ha
  intro d
  induction d with
  | zero =>
    intro i x5 hi hx
    obtain rfl : i = p := by omega
    exact br_t (by rw [hfp]; exact nI_le (by omega) (by omega)) (h x5 hx)
  | succ d ih =>
    intro i x5 hi hx
    have cl : (nI i).toNatClampNeg = i := nI_clamp (by omega)
    refine br_f (by rw [hfp]; exact nI_ge (by omega) (by omega)) ⟨vp_in_nI (by omega) (by omega), ?_⟩
    rw [cl]
    refine nm_e (xx_reach g (ms_or h3 (ms_and (hA i (by omega)) h4)) h2 fun r hr => nm_e (nm_r (nI_1 i) (ih (i + 1) _ (by omega) (ms_cg (fun t ht => ?_) (ms_and hx hr)))))
    constructor
    · intro h5
      refine ⟨h5.1.1, fun j hj => ?_⟩
      by_cases e : j = i
      · subst e; exact h5.2
      · exact h5.1.2 j (by omega)
    · intro h5
      exact ⟨⟨h5.1, fun j hj => h5.2 j (by omega)⟩, h5.2 i (by omega)⟩
theorem xx_shrink {post : Int32 → Prop} {x1 x2 x3 : Int32} {gu B K : Nat → Prop} (g : gx_g n EN E f_n a_owners a_succ) (ha : gx_s n p A f_p a_assume) (h1 : ms_of n x1 K) (h2 : ms_of n x2 (fun t => ¬ gu t)) (h3 : ms_of n x3 (fun t => gu t ∧ gm_pre n EN E B t)) (h : ∀ r, ms_of n r (fun t => K t ∧ ∀ i, i < p → gm_R n (gm_pre n EN E) (gm_gi (gm_pre n EN E) (A i) gu B K) (fun t => ¬ gu t) t) → post r) : wpX_shrinkHeld post (f_n, f_p, f_q, f_full, f_solved, f_won, f_lost, f_playing, f_tokenState, f_awaitedNumber, a_owners, a_succ, a_assume, a_guar, a_siegeLayers, a_doomOf, a_debtOf, a_distOf) x1 x2 x3 :=
  xx_pre0 g h1 fun _ hr => nm_e ⟨p + 1, xx_shrink16 g ha h2 h3 (ms_and h2 hr) h p 0 x1 (by omega) (ms_cg (fun t _ => ⟨fun h => ⟨h, fun j hj => by omega⟩, fun h => h.1⟩) h1)⟩
theorem xx_siege28 {post : Int32 → Prop} {x3 x4 : Int32} {gu B : Nat → Prop} (g : gx_g n EN E f_n a_owners a_succ) (ha : gx_s n p A f_p a_assume) (h3 : ms_of n x3 (fun t => gu t ∧ gm_pre n EN E B t)) (h4 : ms_of n x4 (fun t => ¬ gu t)) (h : ∀ r, ms_of n r (gm_H n p (gm_pre n EN E) A gu B) → post r) : ∀ d s x5, ∀ K : Nat → Prop, s + d = n + 1 → ms_of n x5 K → (∀ t, t < n → K t → ¬ gu t ∨ (gu t ∧ gm_pre n EN E B t)) → (∀ t, t < n → gm_H n p (gm_pre n EN E) A gu B t → K t) → s + gm_cn K n ≤ n → wX_siegeLayer_28 post x3 x4 f_n f_p f_q f_full f_solved f_won f_lost f_playing f_tokenState f_awaitedNumber a_owners a_succ a_assume a_guar a_siegeLayers a_doomOf a_debtOf a_distOf (d + 1) x5 (nI s) := by
  have hn8 : n ≤ 8 := g.2.2.1
  have hfn : f_n = nI n := g.1
  intro d
  induction d with
  | zero =>
    intro s x5 K hs _ _ _ hc
    omega
  | succ d ih =>
    intro s x5 K hs hx hK hH hc
    refine br_f (by rw [hfn]; exact nI_nlt (by omega) (by omega)) (xx_shrink g ha hx h4 h3 fun r hr => ?_)
    refine br_c (fun he => h x5 (ms_cg (fun t ht => ⟨fun h1 => ?_, hH t ht⟩) hx)) (fun he => nm_r (nI_1 s) (ih (s + 1) r _ (by omega) hr (fun t ht h1 => hK t ht h1.1) (fun t ht h1 => ⟨hH t ht h1, fun i hi => ?_⟩) ?_))
    · have h2 := (ms_iff hn8 hr hx).1 he
      exact ⟨K, fun c hc h3 => ⟨hK c hc h3, ((h2 c hc).2 h3).2⟩, h1⟩
    · exact gm_R_mono (gm_gi_mono gm_pre_mono (fun _ _ h => h) hH) ((gm_H_pf gm_pre_mono t ht h1).2 i hi)
    · have h1 : ∃ t, t < n ∧ K t ∧ ¬ (K t ∧ ∀ i, i < p → gm_R n (gm_pre n EN E) (gm_gi (gm_pre n EN E) (A i) gu B K) (fun t => ¬ gu t) t) := by
        refine Classical.byContradiction fun hh => he ((ms_iff hn8 hr hx).2 fun t ht => ⟨fun h2 => h2.1, fun h2 => ?_⟩)
        exact Classical.byContradiction fun h3 => hh ⟨t, ht, h2, h3⟩
      obtain ⟨t, ht, h2, h3⟩ := h1
      have h4 := gm_cn_lt (S := fun t => K t ∧ ∀ i, i < p → gm_R n (gm_pre n EN E) (gm_gi (gm_pre n EN E) (A i) gu B K) (fun t => ¬ gu t) t) (T := K) n (fun t _ h => h.1) t ht h2 h3
      omega
theorem xx_siegeLayer {post : Int32 → Prop} {x1 x2 : Int32} {gu B : Nat → Prop} (g : gx_g n EN E f_n a_owners a_succ) (ha : gx_s n p A f_p a_assume) (hf : ms_of n f_full (fun _ => True)) (h1 : ms_of n x1 gu) (h2 : ms_of n x2 B) (h : ∀ r, ms_of n r (gm_H n p (gm_pre n EN E) A gu B) → post r) : wpX_siegeLayer post (f_n, f_p, f_q, f_full, f_solved, f_won, f_lost, f_playing, f_tokenState, f_awaitedNumber, a_owners, a_succ, a_assume, a_guar, a_siegeLayers, a_doomOf, a_debtOf, a_distOf) x1 x2 := by
  refine xx_pre0 g h2 fun r hr => nm_e (nm_e (nm_e ⟨n + 1 + 1, ?_⟩))
  have h4 : ms_of n (f_full &&& (x1 ^^^ (-1))) (fun t => ¬ gu t) := ms_cg (fun t _ => ⟨fun h => h.2, fun h => ⟨True.intro, h⟩⟩) (ms_diff hf h1)
  have h3 := ms_and h1 hr
  have h5 := gm_cn_le (fun t => ¬ gu t ∨ (gu t ∧ gm_pre n EN E B t)) n
  exact xx_siege28 g ha h3 h4 h (n + 1) 0 _ (fun t => ¬ gu t ∨ (gu t ∧ gm_pre n EN E B t)) (by omega) (ms_or h4 h3) (fun _ _ h => h) (fun t ht hh => (gm_H_pf gm_pre_mono t ht hh).1) (by omega)
theorem xx_chase31 {post : Int32 → Prop} {x4 x5 : Int32} {a gl B : Nat → Prop} (g : gx_g n EN E f_n a_owners a_succ) (h4 : ms_of n x4 (fun t => gl t ∨ (a t ∧ gm_PS (gm_pre n EN E) B t))) (h5 : ms_of n x5 (fun t => ¬ a t)) (h : ∀ r, ms_of n r (gm_C n (gm_pre n EN E) a gl B) → post r) : ∀ d s x6, ∀ K : Nat → Prop, s + d = n + 1 → ms_of n x6 K → (∀ t, t < n → ((gl t ∨ (a t ∧ gm_PS (gm_pre n EN E) B t)) ∨ (¬ a t ∧ gm_PS (gm_pre n EN E) K t)) → K t) → (∀ t, t < n → gm_C n (gm_pre n EN E) a gl B t → K t) → s + gm_cn K n ≤ n → wX_chaseLayer_31 post x4 x5 f_n f_p f_q f_full f_solved f_won f_lost f_playing f_tokenState f_awaitedNumber a_owners a_succ a_assume a_guar a_siegeLayers a_doomOf a_debtOf a_distOf (d + 1) x6 (nI s) := by
  have hn8 : n ≤ 8 := g.2.2.1
  have hfn : f_n = nI n := g.1
  have ps : gm_mono n (gm_PS (gm_pre n EN E)) := gm_PS_mono gm_pre_mono
  intro d
  induction d with
  | zero =>
    intro s x5 K hs _ _ _ hc
    omega
  | succ d ih =>
    intro s x6 K hs hx hK hH hc
    refine br_f (by rw [hfn]; exact nI_nlt (by omega) (by omega)) (xx_pre1 g hx fun r hr => nm_e ?_)
    have hx' : ms_of n (x4 ||| (x5 &&& r)) (fun t => (gl t ∨ (a t ∧ gm_PS (gm_pre n EN E) B t)) ∨ (¬ a t ∧ gm_PS (gm_pre n EN E) K t)) := ms_or h4 (ms_and h5 hr)
    refine br_c (fun he => h x6 (ms_cg (fun t ht => ⟨fun h1 => ?_, hH t ht⟩) hx)) (fun he => nm_r (nI_1 s) (ih (s + 1) _ _ (by omega) hx' (fun t ht h1 => ?_) (fun t ht h1 => ?_) ?_))
    · have h2 := (ms_iff hn8 hx' hx).1 he
      exact ⟨K, fun c hc h3 => (h2 c hc).2 h3, h1⟩
    · rcases h1 with h1 | ⟨h1, h2⟩
      · exact Or.inl h1
      · exact Or.inr ⟨h1, ps _ _ hK t ht h2⟩
    · rcases gm_C_cf gm_pre_mono t ht h1 with h2 | ⟨h2, h3⟩
      · exact Or.inl h2
      · exact Or.inr ⟨h2, ps _ _ hH t ht h3⟩
    · have h1 : ∃ t, t < n ∧ K t ∧ ¬ ((gl t ∨ (a t ∧ gm_PS (gm_pre n EN E) B t)) ∨ (¬ a t ∧ gm_PS (gm_pre n EN E) K t)) := by
        refine Classical.byContradiction fun hh => he ((ms_iff hn8 hx' hx).2 fun t ht => ⟨hK t ht, fun h2 => ?_⟩)
        exact Classical.byContradiction fun h3 => hh ⟨t, ht, h2, h3⟩
      obtain ⟨t, ht, h2, h3⟩ := h1
      have h4 := gm_cn_lt (S := fun t => (gl t ∨ (a t ∧ gm_PS (gm_pre n EN E) B t)) ∨ (¬ a t ∧ gm_PS (gm_pre n EN E) K t)) (T := K) n hK t ht h2 h3
      omega
theorem xx_chaseLayer {post : Int32 → Prop} {x1 x2 x3 : Int32} {a gl B : Nat → Prop} (g : gx_g n EN E f_n a_owners a_succ) (hf : ms_of n f_full (fun _ => True)) (h1 : ms_of n x1 gl) (h2 : ms_of n x2 a) (h3 : ms_of n x3 B) (h : ∀ r, ms_of n r (gm_C n (gm_pre n EN E) a gl B) → post r) : wpX_chaseLayer post (f_n, f_p, f_q, f_full, f_solved, f_won, f_lost, f_playing, f_tokenState, f_awaitedNumber, a_owners, a_succ, a_assume, a_guar, a_siegeLayers, a_doomOf, a_debtOf, a_distOf) x1 x2 x3 := by
  refine xx_pre1 g h3 fun r hr => nm_e (nm_e ⟨n + 1 + 1, ?_⟩)
  have h5 : ms_of n (f_full &&& (x2 ^^^ (-1))) (fun t => ¬ a t) := ms_cg (fun t _ => ⟨fun h => h.2, fun h => ⟨True.intro, h⟩⟩) (ms_diff hf h2)
  have h6 := gm_cn_le (fun _ => True) n
  exact xx_chase31 g (ms_or h1 (ms_and h2 hr)) h5 h (n + 1) 0 _ (fun _ => True) (by omega) hf (fun _ _ _ => True.intro) (fun _ _ _ => True.intro) (by omega)
end
end
section
/-! ===== X: stamps, solveSiege, solveChase, measure, solveDistances, count, solve ===== -/
theorem gm_first {F : Nat → Prop} : ∀ N, ¬ F 0 → F N → ∃ z, z < N ∧ F (z + 1) ∧ ¬ F z := by
  intro N
  induction N with
  | zero => intro h0 h; exact absurd h h0
  | succ N ih =>
    intro h0 h
    by_cases hN : F N
    · obtain ⟨z, hz, h1⟩ := ih h0 hN
      exact ⟨z, by omega, h1⟩
    · exact ⟨N, by omega, h, hN⟩
theorem gm_nq {n q : Nat} (hn : n ≤ 8) (hq : q ≤ 3) : n * q ≤ 24 := Nat.mul_le_mul hn hq
theorem gm_x3 (s j : Nat) : nI s * 3 + nI j = nI (s * 3 + j) := by
  show nI s * nI 3 + nI j = _
  rw [pk_mul, nI_add]
theorem gm_sm {y k : Nat} (hk : 0 < k) : (y % k + 1 < k ∧ (y + 1) % k = y % k + 1) ∨ (¬ y % k + 1 < k ∧ (y + 1) % k = 0) := by
  have h := Nat.mod_lt y hk
  rw [← Nat.mod_add_mod]
  by_cases h1 : y % k + 1 < k
  · exact Or.inl ⟨h1, Nat.mod_eq_of_lt h1⟩
  · refine Or.inr ⟨h1, ?_⟩
    rw [show y % k + 1 = k from by omega, Nat.mod_self]
/-- the answer for a distance -/
def gx_DD (n p q : Nat) (EN : Nat → Prop) (E A G : Nat → Nat → Prop) (t i : Nat) (v : Int32) : Prop := ∀ y, y < n * q → gm_L n p q (gm_pre n EN E) A G (y + 1) t → ¬ gm_L n p q (gm_pre n EN E) A G y t → ∀ d, d < n → gm_Q (gm_pre n EN E) (gm_L n p q (gm_pre n EN E) A G (y + 1)) (A i) (d + 1) t → ¬ gm_Q (gm_pre n EN E) (gm_L n p q (gm_pre n EN E) A G (y + 1)) (A i) d t → v = nI d
/-- what X holds when it is solved -/
def gx_sol (n p q : Nat) (EN : Nat → Prop) (E A G : Nat → Nat → Prop) (w l : Int32) (dm db ds : Nat → Int32) : Prop := ms_of n w (fun t => ¬ gm_L n p q (gm_pre n EN E) A G (n * q) t) ∧ ms_of n l (gm_L n p q (gm_pre n EN E) A G (n * q)) ∧ (∀ t, t < n → ∀ z, z < n * q → gm_L n p q (gm_pre n EN E) A G (z + 1) t → ¬ gm_L n p q (gm_pre n EN E) A G z t → dm t = nI z) ∧ (∀ j, j < q → ∀ t, t < n → ∀ z, z < n * p → gm_D n p (gm_pre n EN E) A (gm_gl n p q (gm_pre n EN E) A G j) (z + 1) t → ¬ gm_D n p (gm_pre n EN E) A (gm_gl n p q (gm_pre n EN E) A G j) z t → db (t * 3 + j) = nI z) ∧ (∀ t, t < n → ∀ i, i < p → gx_DD n p q EN E A G t i (ds (t * 3 + i)))
section
variable {n p q : Nat} {EN : Nat → Prop} {E A G : Nat → Nat → Prop}
variable {f_n f_p f_q f_full f_solved f_won f_lost f_playing f_tokenState f_awaitedNumber : Int32}
variable {a_owners a_succ a_assume a_guar a_siegeLayers a_doomOf a_debtOf a_distOf : Nat → Int32}
theorem xx_after {post : Int32 → Prop} {y k : Nat} {fk : Int32} (hk : 0 < k) (hk3 : k ≤ 3) (hfk : fk = nI k) (h : post (nI ((y + 1) % k))) : wpX_after post (f_n, f_p, f_q, f_full, f_solved, f_won, f_lost, f_playing, f_tokenState, f_awaitedNumber, a_owners, a_succ, a_assume, a_guar, a_siegeLayers, a_doomOf, a_debtOf, a_distOf) (nI (y % k)) fk := by
  have hm := Nat.mod_lt y hk
  rcases gm_sm (y := y) hk with ⟨h1, h2⟩ | ⟨h1, h2⟩
  · rw [h2] at h
    refine br_t (by rw [nI_1, hfk]; exact nI_lt h1 (by omega)) ?_
    rw [nI_1]; exact h
  · rw [h2] at h
    exact br_f (by rw [nI_1, hfk]; exact nI_nlt (by omega) (by omega)) h
theorem xx_stampDoom2 {post : SX → Prop} {x1 x2 : Int32} {d0 : Nat → Int32} (hfn : f_n = nI n) (hn : n ≤ 8) (h : ∀ dm : Nat → Int32, (∀ t, t < n → (bt x1 t = true → dm t = x2) ∧ (bt x1 t = false → dm t = d0 t)) → post (f_n, f_p, f_q, f_full, f_solved, f_won, f_lost, f_playing, f_tokenState, f_awaitedNumber, a_owners, a_succ, a_assume, a_guar, a_siegeLayers, dm, a_debtOf, a_distOf)) : ∀ d s, ∀ dm : Nat → Int32, s + d = n → (∀ t, t < n → ((t < s ∧ bt x1 t = true) → dm t = x2) ∧ (¬ (t < s ∧ bt x1 t = true) → dm t = d0 t)) → wX_stampDoom_2 post x1 x2 f_n f_p f_q f_full f_solved f_won f_lost f_playing f_tokenState f_awaitedNumber (d + 1) (nI s) a_owners a_succ a_assume a_guar a_siegeLayers dm a_debtOf a_distOf := by
  intro d
  induction d with
  | zero =>
    intro s dm hs hd
    refine br_t (by rw [hfn]; exact nI_le (by omega) (by omega)) (h dm fun t ht => ⟨fun hb => (hd t ht).1 ⟨by omega, hb⟩, fun hb => (hd t ht).2 fun hh => ?_⟩)
    rw [hb] at hh
    exact nomatch hh.2
  | succ d ih =>
    intro s dm hs hd
    have cl : (nI s).toNatClampNeg = s := nI_clamp (by omega)
    refine br_f (by rw [hfn]; exact nI_ge (by omega) (by omega)) (xx_has (by omega) (fun hb => br_f ms_ne10 ⟨vp_in_nI (by omega) (by omega), nm_r (e' := upd dm s x2) (by rw [cl]) (nm_r (nI_1 s) (ih (s + 1) _ (by omega) ?_))⟩) (fun hb => br_t rfl (nm_r (nI_1 s) (ih (s + 1) dm (by omega) ?_))))
    · intro t ht
      by_cases e : t = s
      · subst e
        rw [pk_us]
        exact ⟨fun _ => rfl, fun h1 => absurd ⟨by omega, hb⟩ h1⟩
      · rw [pk_un e]
        exact ⟨fun h1 => (hd t ht).1 ⟨by omega, h1.2⟩, fun h1 => (hd t ht).2 fun h2 => h1 ⟨by omega, h2.2⟩⟩
    · intro t ht
      refine ⟨fun h1 => (hd t ht).1 ⟨?_, h1.2⟩, fun h1 => (hd t ht).2 fun h2 => h1 ⟨by omega, h2.2⟩⟩
      by_cases e : t = s
      · subst e
        rw [hb] at h1
        exact nomatch h1.2
      · omega
theorem xx_stampDoom {post : SX → Prop} {x1 x2 : Int32} (hfn : f_n = nI n) (hn : n ≤ 8) (h : ∀ dm : Nat → Int32, (∀ t, t < n → (bt x1 t = true → dm t = x2) ∧ (bt x1 t = false → dm t = a_doomOf t)) → post (f_n, f_p, f_q, f_full, f_solved, f_won, f_lost, f_playing, f_tokenState, f_awaitedNumber, a_owners, a_succ, a_assume, a_guar, a_siegeLayers, dm, a_debtOf, a_distOf)) : wpX_stampDoom post (f_n, f_p, f_q, f_full, f_solved, f_won, f_lost, f_playing, f_tokenState, f_awaitedNumber, a_owners, a_succ, a_assume, a_guar, a_siegeLayers, a_doomOf, a_debtOf, a_distOf) x1 x2 :=
  ⟨n + 1, xx_stampDoom2 hfn hn h n 0 a_doomOf (by omega) (fun t _ => ⟨fun h1 => by omega, fun _ => rfl⟩)⟩
theorem xx_stampDebt3 {post : SX → Prop} {x1 x3 : Int32} {j : Nat} {d0 : Nat → Int32} (hfn : f_n = nI n) (hn : n ≤ 8) (hj : j < 3) (h : ∀ db : Nat → Int32, (∀ t, t < n → (bt x1 t = true → db (t * 3 + j) = x3) ∧ (bt x1 t = false → db (t * 3 + j) = d0 (t * 3 + j))) → (∀ k, k % 3 ≠ j → db k = d0 k) → post (f_n, f_p, f_q, f_full, f_solved, f_won, f_lost, f_playing, f_tokenState, f_awaitedNumber, a_owners, a_succ, a_assume, a_guar, a_siegeLayers, a_doomOf, db, a_distOf)) : ∀ d s, ∀ db : Nat → Int32, s + d = n → (∀ t, t < n → ((t < s ∧ bt x1 t = true) → db (t * 3 + j) = x3) ∧ (¬ (t < s ∧ bt x1 t = true) → db (t * 3 + j) = d0 (t * 3 + j))) → (∀ k, k % 3 ≠ j → db k = d0 k) → wX_stampDebt_3 post x1 (nI j) x3 f_n f_p f_q f_full f_solved f_won f_lost f_playing f_tokenState f_awaitedNumber (d + 1) (nI s) a_owners a_succ a_assume a_guar a_siegeLayers a_doomOf db a_distOf := by
  intro d
  induction d with
  | zero =>
    intro s db hs hd hk
    refine br_t (by rw [hfn]; exact nI_le (by omega) (by omega)) (h db (fun t ht => ⟨fun hb => (hd t ht).1 ⟨by omega, hb⟩, fun hb => (hd t ht).2 fun hh => ?_⟩) hk)
    rw [hb] at hh
    exact nomatch hh.2
  | succ d ih =>
    intro s db hs hd hk
    have cl : (nI s * 3 + nI j).toNatClampNeg = s * 3 + j := by rw [gm_x3]; exact nI_clamp (by omega)
    refine br_f (by rw [hfn]; exact nI_ge (by omega) (by omega)) (xx_has (by omega) (fun hb => br_f ms_ne10 ⟨by rw [gm_x3]; exact vp_in_nI (by omega) (by omega), nm_r (e' := upd db (s * 3 + j) x3) (by rw [cl]) (nm_r (nI_1 s) (ih (s + 1) _ (by omega) ?_ ?_))⟩) (fun hb => br_t rfl (nm_r (nI_1 s) (ih (s + 1) db (by omega) ?_ hk))))
    · intro t ht
      by_cases e : t = s
      · subst e
        rw [pk_us]
        exact ⟨fun _ => rfl, fun h1 => absurd ⟨by omega, hb⟩ h1⟩
      · rw [pk_un (by omega)]
        exact ⟨fun h1 => (hd t ht).1 ⟨by omega, h1.2⟩, fun h1 => (hd t ht).2 fun h2 => h1 ⟨by omega, h2.2⟩⟩
    · intro k h1
      rw [pk_un (by omega)]
      exact hk k h1
    · intro t ht
      refine ⟨fun h1 => (hd t ht).1 ⟨?_, h1.2⟩, fun h1 => (hd t ht).2 fun h2 => h1 ⟨by omega, h2.2⟩⟩
      by_cases e : t = s
      · subst e
        rw [hb] at h1
        exact nomatch h1.2
      · omega
theorem xx_stampDebt {post : SX → Prop} {x1 x3 : Int32} {j : Nat} (hfn : f_n = nI n) (hn : n ≤ 8) (hj : j < 3) (h : ∀ db : Nat → Int32, (∀ t, t < n → (bt x1 t = true → db (t * 3 + j) = x3) ∧ (bt x1 t = false → db (t * 3 + j) = a_debtOf (t * 3 + j))) → (∀ k, k % 3 ≠ j → db k = a_debtOf k) → post (f_n, f_p, f_q, f_full, f_solved, f_won, f_lost, f_playing, f_tokenState, f_awaitedNumber, a_owners, a_succ, a_assume, a_guar, a_siegeLayers, a_doomOf, db, a_distOf)) : wpX_stampDebt post (f_n, f_p, f_q, f_full, f_solved, f_won, f_lost, f_playing, f_tokenState, f_awaitedNumber, a_owners, a_succ, a_assume, a_guar, a_siegeLayers, a_doomOf, a_debtOf, a_distOf) x1 (nI j) x3 :=
  ⟨n + 1, xx_stampDebt3 hfn hn hj h n 0 a_debtOf (by omega) (fun t _ => ⟨fun h1 => by omega, fun _ => rfl⟩) (fun _ _ => rfl)⟩
theorem xx_solveSiege6 {post : SX → Prop} (g : gx_g n EN E f_n a_owners a_succ) (ha : gx_s n p A f_p a_assume) (hg : gx_s n q G f_q a_guar) (hf : ms_of n f_full (fun _ => True)) (h : ∀ (w l : Int32) (sl dm : Nat → Int32), ms_of n w (fun t => ¬ gm_L n p q (gm_pre n EN E) A G (n * q) t) → ms_of n l (gm_L n p q (gm_pre n EN E) A G (n * q)) → (∀ z, z < n * q → ms_of n (sl z) (gm_L n p q (gm_pre n EN E) A G (z + 1))) → (∀ t, t < n → ∀ z, z < n * q → gm_L n p q (gm_pre n EN E) A G (z + 1) t → ¬ gm_L n p q (gm_pre n EN E) A G z t → dm t = nI z) → post (f_n, f_p, f_q, f_full, f_solved, w, l, f_playing, f_tokenState, f_awaitedNumber, a_owners, a_succ, a_assume, a_guar, sl, dm, a_debtOf, a_distOf)) : ∀ d y x1, ∀ sl dm : Nat → Int32, y + d = n * q → ms_of n x1 (gm_L n p q (gm_pre n EN E) A G y) → (∀ z, z < y → ms_of n (sl z) (gm_L n p q (gm_pre n EN E) A G (z + 1))) → (∀ t, t < n → ∀ z, z < y → gm_L n p q (gm_pre n EN E) A G (z + 1) t → ¬ gm_L n p q (gm_pre n EN E) A G z t → dm t = nI z) → wX_solveSiege_6 post (d + 1) x1 (nI (y % q)) (nI y) f_n f_p f_q f_full f_solved f_won f_lost f_playing f_tokenState f_awaitedNumber a_owners a_succ a_assume a_guar sl dm a_debtOf a_distOf := by
  have hn8 : n ≤ 8 := g.2.2.1
  have hfn : f_n = nI n := g.1
  obtain ⟨hfq, hq1, hq3, hG⟩ := hg
  have hnq := gm_nq hn8 hq3
  have hmul : f_n * f_q = nI (n * q) := by rw [hfn, hfq, pk_mul]
  intro d
  induction d with
  | zero =>
    intro y x1 sl dm hy hx hsl hdm
    obtain rfl : y = n * q := by omega
    refine br_t (by rw [hmul]; exact nI_le (by omega) (by omega)) (nm_e (h _ x1 sl dm ?_ hx hsl hdm))
    exact ms_cg (fun t _ => ⟨fun h => h.2, fun h => ⟨True.intro, h⟩⟩) (ms_diff hf hx)
  | succ d ih =>
    intro y x1 sl dm hy hx hsl hdm
    have hr := Nat.mod_lt y hq1
    have cl : (nI (y % q)).toNatClampNeg = y % q := nI_clamp (by omega)
    have cly : (nI y).toNatClampNeg = y := nI_clamp (by omega)
    refine br_f (by rw [hmul]; exact nI_ge (by omega) (by omega)) ⟨vp_in_nI (by omega) (by omega), ?_⟩
    rw [cl]
    refine xx_siegeLayer g ha hf (hG (y % q) hr) hx fun r hr2 => ⟨vp_in_nI (by omega) (by omega), nm_r (e' := upd sl y r) (by rw [cly]) (xx_stampDoom hfn hn8 fun dm' hdm' => ?_)⟩
    refine xx_after hq1 hq3 hfq (nm_r (nI_1 y) (ih (y + 1) r _ dm' (by omega) hr2 ?_ ?_))
    · intro z hz
      by_cases e : z = y
      · subst e; rw [pk_us]; exact hr2
      · rw [pk_un e]; exact hsl z (by omega)
    · intro t ht z hz h1 h2
      have hfr := ms_mem hn8 (ms_diff hr2 hx) ht
      have hfr' := ms_nmem hn8 (ms_diff hr2 hx) ht
      by_cases e : z = y
      · subst e
        exact (hdm' t ht).1 (hfr.2 ⟨h1, h2⟩)
      · rw [(hdm' t ht).2 (hfr'.2 fun h3 => h3.2 (gm_L_le gm_pre_mono ha.2.1 y (z + 1) (by omega) t ht h1))]
        exact hdm t ht z (by omega) h1 h2
theorem xx_solveSiege {post : SX → Prop} (g : gx_g n EN E f_n a_owners a_succ) (ha : gx_s n p A f_p a_assume) (hg : gx_s n q G f_q a_guar) (hf : ms_of n f_full (fun _ => True)) (h : ∀ (w l : Int32) (sl dm : Nat → Int32), ms_of n w (fun t => ¬ gm_L n p q (gm_pre n EN E) A G (n * q) t) → ms_of n l (gm_L n p q (gm_pre n EN E) A G (n * q)) → (∀ z, z < n * q → ms_of n (sl z) (gm_L n p q (gm_pre n EN E) A G (z + 1))) → (∀ t, t < n → ∀ z, z < n * q → gm_L n p q (gm_pre n EN E) A G (z + 1) t → ¬ gm_L n p q (gm_pre n EN E) A G z t → dm t = nI z) → post (f_n, f_p, f_q, f_full, f_solved, w, l, f_playing, f_tokenState, f_awaitedNumber, a_owners, a_succ, a_assume, a_guar, sl, dm, a_debtOf, a_distOf)) : wpX_solveSiege post (f_n, f_p, f_q, f_full, f_solved, f_won, f_lost, f_playing, f_tokenState, f_awaitedNumber, a_owners, a_succ, a_assume, a_guar, a_siegeLayers, a_doomOf, a_debtOf, a_distOf) := by
  have h1 := xx_solveSiege6 (f_solved := f_solved) (f_won := f_won) (f_lost := f_lost) (f_playing := f_playing) (f_tokenState := f_tokenState) (f_awaitedNumber := f_awaitedNumber) (a_debtOf := a_debtOf) (a_distOf := a_distOf) g ha hg hf h (n * q) 0 0 a_siegeLayers a_doomOf (by omega) ms_0 (fun z hz => by omega) (fun t _ z hz => by omega)
  rw [Nat.zero_mod] at h1
  exact ⟨n * q + 1, h1⟩
theorem xx_solveChase20 {post : SX → Prop} {j : Nat} {x2 : Int32} {d0 : Nat → Int32} (g : gx_g n EN E f_n a_owners a_succ) (ha : gx_s n p A f_p a_assume) (hf : ms_of n f_full (fun _ => True)) (hj : j < 3) (h2 : ms_of n x2 (gm_gl n p q (gm_pre n EN E) A G j)) (h : ∀ db : Nat → Int32, (∀ t, t < n → ∀ z, z < n * p → gm_D n p (gm_pre n EN E) A (gm_gl n p q (gm_pre n EN E) A G j) (z + 1) t → ¬ gm_D n p (gm_pre n EN E) A (gm_gl n p q (gm_pre n EN E) A G j) z t → db (t * 3 + j) = nI z) → (∀ k, k % 3 ≠ j → db k = d0 k) → post (f_n, f_p, f_q, f_full, f_solved, f_won, f_lost, f_playing, f_tokenState, f_awaitedNumber, a_owners, a_succ, a_assume, a_guar, a_siegeLayers, a_doomOf, db, a_distOf)) : ∀ d x x3, ∀ db : Nat → Int32, x + d = n * p → ms_of n x3 (gm_D n p (gm_pre n EN E) A (gm_gl n p q (gm_pre n EN E) A G j) x) → (∀ t, t < n → ∀ z, z < x → gm_D n p (gm_pre n EN E) A (gm_gl n p q (gm_pre n EN E) A G j) (z + 1) t → ¬ gm_D n p (gm_pre n EN E) A (gm_gl n p q (gm_pre n EN E) A G j) z t → db (t * 3 + j) = nI z) → (∀ k, k % 3 ≠ j → db k = d0 k) → wX_solveChase_20 post (nI j) x2 (d + 1) x3 (nI (x % p)) (nI x) f_n f_p f_q f_full f_solved f_won f_lost f_playing f_tokenState f_awaitedNumber a_owners a_succ a_assume a_guar a_siegeLayers a_doomOf db a_distOf := by
  have hn8 : n ≤ 8 := g.2.2.1
  have hfn : f_n = nI n := g.1
  obtain ⟨hfp, hp1, hp3, hA⟩ := ha
  have hnp := gm_nq hn8 hp3
  have hmul : f_n * f_p = nI (n * p) := by rw [hfn, hfp, pk_mul]
  intro d
  induction d with
  | zero =>
    intro x x3 db hx hx3 hdb hk
    obtain rfl : x = n * p := by omega
    exact br_t (by rw [hmul]; exact nI_le (by omega) (by omega)) (h db hdb hk)
  | succ d ih =>
    intro x x3 db hx hx3 hdb hk
    have hr := Nat.mod_lt x hp1
    have cl : (nI (x % p)).toNatClampNeg = x % p := nI_clamp (by omega)
    refine br_f (by rw [hmul]; exact nI_ge (by omega) (by omega)) ⟨vp_in_nI (by omega) (by omega), ?_⟩
    rw [cl]
    refine xx_chaseLayer g hf h2 (hA (x % p) hr) hx3 fun r hr2 => xx_stampDebt hfn hn8 hj fun db' hdb' hk' => ?_
    refine xx_after hp1 hp3 hfp (nm_r (nI_1 x) (ih (x + 1) r db' (by omega) hr2 ?_ (fun k h1 => (hk' k h1).trans (hk k h1))))
    intro t ht z hz h1 h2
    have hfr := ms_mem hn8 (ms_diff hr2 hx3) ht
    have hfr' := ms_nmem hn8 (ms_diff hr2 hx3) ht
    by_cases e : z = x
    · subst e
      exact (hdb' t ht).1 (hfr.2 ⟨h1, h2⟩)
    · rw [(hdb' t ht).2 (hfr'.2 fun h3 => h3.2 (gm_D_le gm_pre_mono x (z + 1) (by omega) t ht h1))]
      exact hdb t ht z (by omega) h1 h2
theorem xx_solveChase {post : SX → Prop} {j : Nat} (g : gx_g n EN E f_n a_owners a_succ) (ha : gx_s n p A f_p a_assume) (hg : gx_s n q G f_q a_guar) (hf : ms_of n f_full (fun _ => True)) (hj : j < q) (hw : ms_of n f_won (fun t => ¬ gm_L n p q (gm_pre n EN E) A G (n * q) t)) (h : ∀ db : Nat → Int32, (∀ t, t < n → ∀ z, z < n * p → gm_D n p (gm_pre n EN E) A (gm_gl n p q (gm_pre n EN E) A G j) (z + 1) t → ¬ gm_D n p (gm_pre n EN E) A (gm_gl n p q (gm_pre n EN E) A G j) z t → db (t * 3 + j) = nI z) → (∀ k, k % 3 ≠ j → db k = a_debtOf k) → post (f_n, f_p, f_q, f_full, f_solved, f_won, f_lost, f_playing, f_tokenState, f_awaitedNumber, a_owners, a_succ, a_assume, a_guar, a_siegeLayers, a_doomOf, db, a_distOf)) : wpX_solveChase post (f_n, f_p, f_q, f_full, f_solved, f_won, f_lost, f_playing, f_tokenState, f_awaitedNumber, a_owners, a_succ, a_assume, a_guar, a_siegeLayers, a_doomOf, a_debtOf, a_distOf) (nI j) := by
  obtain ⟨hfq, hq1, hq3, hG⟩ := hg
  have cl : (nI j).toNatClampNeg = j := nI_clamp (by omega)
  have h2 : ms_of n (f_won &&& a_guar j) (gm_gl n p q (gm_pre n EN E) A G j) := ms_and hw (hG j hj)
  have h1 := xx_solveChase20 (f_q := f_q) (f_solved := f_solved) (f_won := f_won) (f_lost := f_lost) (f_playing := f_playing) (f_tokenState := f_tokenState) (f_awaitedNumber := f_awaitedNumber) (a_guar := a_guar) (a_siegeLayers := a_siegeLayers) (a_doomOf := a_doomOf) (a_distOf := a_distOf) g ha hf (by omega) h2 h (n * p) 0 0 a_debtOf (by omega) ms_0 (fun t _ z hz => by omega) (fun _ _ => rfl)
  rw [Nat.zero_mod] at h1
  exact ⟨vp_in_nI (by omega) (by omega), nm_r (e' := f_won &&& a_guar j) (by rw [cl]) ⟨n * p + 1, h1⟩⟩
end
end
section
/-! ===== X: measure, solveDistances, count, solve ===== -/
section
variable {n p q : Nat} {EN : Nat → Prop} {E A G : Nat → Nat → Prop}
variable {f_n f_p f_q f_full f_solved f_won f_lost f_playing f_tokenState f_awaitedNumber : Int32}
variable {a_owners a_succ a_assume a_guar a_siegeLayers a_doomOf a_debtOf a_distOf : Nat → Int32}
theorem xx_measure25 {post : Int32 → Prop} {x3 : Int32} {s i y : Nat} (g : gx_g n EN E f_n a_owners a_succ) (hp : 0 < p) (hi : i < p) (hs : s < n) (h3 : ms_of n x3 (gm_L n p q (gm_pre n EN E) A G (y + 1))) (hL : gm_L n p q (gm_pre n EN E) A G (y + 1) s) (h : ∀ d, d < n → gm_Q (gm_pre n EN E) (gm_L n p q (gm_pre n EN E) A G (y + 1)) (A i) (d + 1) s → ¬ gm_Q (gm_pre n EN E) (gm_L n p q (gm_pre n EN E) A G (y + 1)) (A i) d s → post (nI d)) : ∀ d k x4, k + d = n → ms_of n x4 (gm_Q (gm_pre n EN E) (gm_L n p q (gm_pre n EN E) A G (y + 1)) (A i) (k + 1)) → ¬ gm_Q (gm_pre n EN E) (gm_L n p q (gm_pre n EN E) A G (y + 1)) (A i) k s → wX_measure_25 post (nI s) x3 f_n f_p f_q f_full f_solved f_won f_lost f_playing f_tokenState f_awaitedNumber a_owners a_succ a_assume a_guar a_siegeLayers a_doomOf a_debtOf a_distOf (d + 1) x4 (nI k) := by
  have hn8 : n ≤ 8 := g.2.2.1
  have hfn : f_n = nI n := g.1
  intro d
  induction d with
  | zero =>
    intro k x4 hk hx hq
    obtain rfl : k = n := by omega
    exact absurd (gm_Q_all gm_pre_mono hp hi (y + 1) s hs hL) hq
  | succ d ih =>
    intro k x4 hk hx hq
    refine br_f (by rw [hfn]; exact nI_ge (by omega) (by omega)) (xx_has_s hn8 hs hx (fun hm => br_f ms_ne10 (h k (by omega) hm hq)) (fun hm => br_t rfl (xx_pre0 g hx fun r hr => nm_e (nm_r (nI_1 k) (ih (k + 1) _ (by omega) (ms_cg (fun t ht => ?_) (ms_or hx (ms_and h3 hr))) hm)))))
    constructor
    · intro h1
      rcases h1 with h1 | h1
      · exact gm_Q_up gm_pre_mono (k + 1) t ht h1
      · exact ⟨h1.1, Or.inr h1.2⟩
    · intro h1
      rcases h1.2 with h2 | h2
      · exact Or.inl ⟨h1.1, Or.inl h2⟩
      · exact Or.inr ⟨h1.1, h2⟩
theorem xx_measure {post : Int32 → Prop} {s i y : Nat} (g : gx_g n EN E f_n a_owners a_succ) (ha : gx_s n p A f_p a_assume) (hi : i < p) (hs : s < n) (hdm : a_doomOf s = nI y) (hy : y < 24) (hsl : ms_of n (a_siegeLayers y) (gm_L n p q (gm_pre n EN E) A G (y + 1))) (hL : gm_L n p q (gm_pre n EN E) A G (y + 1) s) (h : ∀ d, d < n → gm_Q (gm_pre n EN E) (gm_L n p q (gm_pre n EN E) A G (y + 1)) (A i) (d + 1) s → ¬ gm_Q (gm_pre n EN E) (gm_L n p q (gm_pre n EN E) A G (y + 1)) (A i) d s → post (nI d)) : wpX_measure post (f_n, f_p, f_q, f_full, f_solved, f_won, f_lost, f_playing, f_tokenState, f_awaitedNumber, a_owners, a_succ, a_assume, a_guar, a_siegeLayers, a_doomOf, a_debtOf, a_distOf) (nI s) (nI i) := by
  have hn8 : n ≤ 8 := g.2.2.1
  obtain ⟨hfp, hp1, hp3, hA⟩ := ha
  have cls : (nI s).toNatClampNeg = s := nI_clamp (by omega)
  have cli : (nI i).toNatClampNeg = i := nI_clamp (by omega)
  have cly : (nI y).toNatClampNeg = y := nI_clamp (by omega)
  refine ⟨vp_in_nI (by omega) (by omega), ?_⟩
  rw [cls, hdm, cly]
  refine ⟨vp_in_nI (by omega) (by omega), nm_e ⟨vp_in_nI (by omega) (by omega), ?_⟩⟩
  rw [cli]
  refine nm_e ⟨n + 1, xx_measure25 g hp1 hi hs hsl hL h n 0 _ (by omega) (ms_cg (fun t ht => ?_) (ms_and hsl (hA i hi))) (fun h => h)⟩
  constructor
  · intro h1; exact ⟨h1.1, Or.inl h1.2⟩
  · intro h1
    rcases h1.2 with h2 | h2
    · exact ⟨h1.1, h2⟩
    · exact absurd h2 (gm_pre_0 g.2.2.2.2.2 t ht)
theorem gx_DD_of {s i y d : Nat} (hs : s < n) (hp : 0 < p) (hL : gm_L n p q (gm_pre n EN E) A G (y + 1) s) (hL' : ¬ gm_L n p q (gm_pre n EN E) A G y s) (hQ : gm_Q (gm_pre n EN E) (gm_L n p q (gm_pre n EN E) A G (y + 1)) (A i) (d + 1) s) (hQ' : ¬ gm_Q (gm_pre n EN E) (gm_L n p q (gm_pre n EN E) A G (y + 1)) (A i) d s) : gx_DD n p q EN E A G s i (nI d) := by
  intro y' hy' h1 h2 d' hd' h3 h4
  have e : y' = y := by
    rcases Nat.lt_trichotomy y' y with hlt | heq | hgt
    · exact absurd (gm_L_le gm_pre_mono hp y (y' + 1) (by omega) s hs h1) hL'
    · exact heq
    · exact absurd (gm_L_le gm_pre_mono hp y' (y + 1) (by omega) s hs hL) h2
  subst e
  have e2 : d' = d := by
    rcases Nat.lt_trichotomy d' d with hlt | heq | hgt
    · exact absurd (gm_Q_le gm_pre_mono d (d' + 1) (by omega) s hs h3) hQ'
    · exact heq
    · exact absurd (gm_Q_le gm_pre_mono d' (d + 1) (by omega) s hs hQ) h4
  rw [e2]
theorem xx_sd24 {post : SX → Prop} {J : Int32 → (Nat → Int32) → (Nat → Int32) → (Nat → Int32) → (Nat → Int32) → (Nat → Int32) → (Nat → Int32) → (Nat → Int32) → (Nat → Int32) → Prop} {s y : Nat} (g : gx_g n EN E f_n a_owners a_succ) (ha : gx_s n p A f_p a_assume) (hs : s < n) (hdm : a_doomOf s = nI y) (hy : y < 24) (hsl : ms_of n (a_siegeLayers y) (gm_L n p q (gm_pre n EN E) A G (y + 1))) (hL : gm_L n p q (gm_pre n EN E) A G (y + 1) s) (hL' : ¬ gm_L n p q (gm_pre n EN E) A G y s) (hJ : ∀ ds : Nat → Int32, (∀ t, t < s + 1 → ∀ i, i < p → gx_DD n p q EN E A G t i (ds (t * 3 + i))) → J (nI (s + 1)) a_owners a_succ a_assume a_guar a_siegeLayers a_doomOf a_debtOf ds) : ∀ d i, ∀ ds : Nat → Int32, i + d = p → (∀ t, t < s → ∀ i, i < p → gx_DD n p q EN E A G t i (ds (t * 3 + i))) → (∀ k, k < i → gx_DD n p q EN E A G s k (ds (s * 3 + k))) → wX_solveDistances_24 post J (nI s) f_n f_p f_q f_full f_solved f_won f_lost f_playing f_tokenState f_awaitedNumber (d + 1) (nI i) a_owners a_succ a_assume a_guar a_siegeLayers a_doomOf a_debtOf ds := by
  have hn8 : n ≤ 8 := g.2.2.1
  have hfp : f_p = nI p := ha.1
  have hp1 : 1 ≤ p := ha.2.1
  have hp3 : p ≤ 3 := ha.2.2.1
  intro d
  induction d with
  | zero =>
    intro i ds hi h1 h2
    refine br_t (by rw [hfp]; exact nI_le (by omega) (by omega)) (nm_r (nI_1 s) (hJ ds fun t ht i' hi' => ?_))
    by_cases e : t = s
    · subst e; exact h2 i' (by omega)
    · exact h1 t (by omega) i' hi'
  | succ d ih =>
    intro i ds hi h1 h2
    have cl : (nI s * 3 + nI i).toNatClampNeg = s * 3 + i := by rw [gm_x3]; exact nI_clamp (by omega)
    refine br_f (by rw [hfp]; exact nI_ge (by omega) (by omega)) (xx_measure g ha (by omega) hs hdm hy hsl hL fun r hr hQ hQ' => ⟨by rw [gm_x3]; exact vp_in_nI (by omega) (by omega), nm_r (e' := upd ds (s * 3 + i) (nI r)) (by rw [cl]) (nm_r (nI_1 i) (ih (i + 1) _ (by omega) ?_ ?_))⟩)
    · intro t ht i' hi'
      rw [pk_un (by omega)]
      exact h1 t ht i' hi'
    · intro k hk
      by_cases e : k = i
      · subst e
        rw [pk_us]
        exact gx_DD_of hs hp1 hL hL' hQ hQ'
      · rw [pk_un (by omega)]
        exact h2 k (by omega)
theorem xx_sd2 {post : SX → Prop} (g : gx_g n EN E f_n a_owners a_succ) (ha : gx_s n p A f_p a_assume) (hg : gx_s n q G f_q a_guar) (hl : ms_of n f_lost (gm_L n p q (gm_pre n EN E) A G (n * q))) (hsl : ∀ z, z < n * q → ms_of n (a_siegeLayers z) (gm_L n p q (gm_pre n EN E) A G (z + 1))) (hdm : ∀ t, t < n → ∀ z, z < n * q → gm_L n p q (gm_pre n EN E) A G (z + 1) t → ¬ gm_L n p q (gm_pre n EN E) A G z t → a_doomOf t = nI z) (h : ∀ ds : Nat → Int32, (∀ t, t < n → ∀ i, i < p → gx_DD n p q EN E A G t i (ds (t * 3 + i))) → post (f_n, f_p, f_q, f_full, f_solved, f_won, f_lost, f_playing, f_tokenState, f_awaitedNumber, a_owners, a_succ, a_assume, a_guar, a_siegeLayers, a_doomOf, a_debtOf, ds)) : ∀ d s, ∀ ds : Nat → Int32, s + d = n → (∀ t, t < s → ∀ i, i < p → gx_DD n p q EN E A G t i (ds (t * 3 + i))) → wX_solveDistances_2 post f_n f_p f_q f_full f_solved f_won f_lost f_playing f_tokenState f_awaitedNumber (d + 1) (nI s) a_owners a_succ a_assume a_guar a_siegeLayers a_doomOf a_debtOf ds := by
  have hn8 : n ≤ 8 := g.2.2.1
  have hfn : f_n = nI n := g.1
  have hp1 : 1 ≤ p := ha.2.1
  have hnq := gm_nq hn8 hg.2.2.1
  intro d
  induction d with
  | zero =>
    intro s ds hs h1
    obtain rfl : s = n := by omega
    exact br_t (by rw [hfn]; exact nI_le (by omega) (by omega)) (h ds h1)
  | succ d ih =>
    intro s ds hs h1
    have hsn : s < n := by omega
    refine br_f (by rw [hfn]; exact nI_ge (by omega) (by omega)) (xx_has_s hn8 hsn hl (fun hm => br_f ms_ne10 ?_) (fun hm => br_t rfl (nm_r (nI_1 s) (ih (s + 1) ds (by omega) fun t ht i hi => ?_))))
    · obtain ⟨y, hy, hL, hL'⟩ := gm_first (F := fun y => gm_L n p q (gm_pre n EN E) A G y s) (n * q) (fun h => h) hm
      exact ⟨p + 1, xx_sd24 g ha hsn (hdm s hsn y hy hL hL') (by omega) (hsl y hy) hL hL' (fun ds' h2 => ih (s + 1) ds' (by omega) h2) p 0 ds (by omega) h1 (fun k hk => by omega)⟩
    · by_cases e : t = s
      · subst e
        intro y hy h2
        exact absurd (gm_L_le gm_pre_mono hp1 (n * q) (y + 1) (by omega) t hsn h2) hm
      · exact h1 t (by omega) i hi
theorem xx_solveDistances {post : SX → Prop} (g : gx_g n EN E f_n a_owners a_succ) (ha : gx_s n p A f_p a_assume) (hg : gx_s n q G f_q a_guar) (hl : ms_of n f_lost (gm_L n p q (gm_pre n EN E) A G (n * q))) (hsl : ∀ z, z < n * q → ms_of n (a_siegeLayers z) (gm_L n p q (gm_pre n EN E) A G (z + 1))) (hdm : ∀ t, t < n → ∀ z, z < n * q → gm_L n p q (gm_pre n EN E) A G (z + 1) t → ¬ gm_L n p q (gm_pre n EN E) A G z t → a_doomOf t = nI z) (h : ∀ ds : Nat → Int32, (∀ t, t < n → ∀ i, i < p → gx_DD n p q EN E A G t i (ds (t * 3 + i))) → post (f_n, f_p, f_q, f_full, f_solved, f_won, f_lost, f_playing, f_tokenState, f_awaitedNumber, a_owners, a_succ, a_assume, a_guar, a_siegeLayers, a_doomOf, a_debtOf, ds)) : wpX_solveDistances post (f_n, f_p, f_q, f_full, f_solved, f_won, f_lost, f_playing, f_tokenState, f_awaitedNumber, a_owners, a_succ, a_assume, a_guar, a_siegeLayers, a_doomOf, a_debtOf, a_distOf) :=
  ⟨n + 1, xx_sd2 g ha hg hl hsl hdm h n 0 a_distOf (by omega) (fun t ht => by omega)⟩
theorem xx_count4 {post : Int32 → Prop} {x1 : Int32} {S : Nat → Prop} (hfn : f_n = nI n) (hn : n ≤ 8) (h1 : ms_of n x1 S) (h : post (nI (gm_cn S n))) : ∀ d s, s + d = n → wX_count_4 post x1 f_n f_p f_q f_full f_solved f_won f_lost f_playing f_tokenState f_awaitedNumber a_owners a_succ a_assume a_guar a_siegeLayers a_doomOf a_debtOf a_distOf (d + 1) (nI (gm_cn S s)) (nI s) := by
  intro d
  induction d with
  | zero =>
    intro s hs
    obtain rfl : s = n := by omega
    exact br_t (by rw [hfn]; exact nI_le (by omega) (by omega)) h
  | succ d ih =>
    intro s hs
    have hsn : s < n := by omega
    have h2 := ih (s + 1) (by omega)
    rw [gm_cn_s] at h2
    refine br_f (by rw [hfn]; exact nI_ge (by omega) (by omega)) (nm_r (e' := nI (gm_cn S s + gm_b (S s))) ?_ (nm_r (nI_1 s) h2))
    by_cases hS : S s
    · rw [ms_h1 (by omega) ((ms_mem hn h1 hsn).2 hS), gm_b1 hS, nI_1]
    · rw [ms_h0 (by omega) ((ms_nmem hn h1 hsn).2 hS), gm_b0 hS, Int32.add_zero, Nat.add_zero]
theorem xx_count {post : Int32 → Prop} {x1 : Int32} {S : Nat → Prop} (hfn : f_n = nI n) (hn : n ≤ 8) (h1 : ms_of n x1 S) (h : post (nI (gm_cn S n))) : wpX_count post (f_n, f_p, f_q, f_full, f_solved, f_won, f_lost, f_playing, f_tokenState, f_awaitedNumber, a_owners, a_succ, a_assume, a_guar, a_siegeLayers, a_doomOf, a_debtOf, a_distOf) x1 :=
  ⟨n + 1, xx_count4 hfn hn h1 h n 0 (by omega)⟩
theorem xx_solve13 {post : Int32 → SX → Prop} (g : gx_g n EN E f_n a_owners a_succ) (ha : gx_s n p A f_p a_assume) (hg : gx_s n q G f_q a_guar) (hf : ms_of n f_full (fun _ => True)) (hw : ms_of n f_won (fun t => ¬ gm_L n p q (gm_pre n EN E) A G (n * q) t)) (hl : ms_of n f_lost (gm_L n p q (gm_pre n EN E) A G (n * q))) (hsl : ∀ z, z < n * q → ms_of n (a_siegeLayers z) (gm_L n p q (gm_pre n EN E) A G (z + 1))) (hdm : ∀ t, t < n → ∀ z, z < n * q → gm_L n p q (gm_pre n EN E) A G (z + 1) t → ¬ gm_L n p q (gm_pre n EN E) A G z t → a_doomOf t = nI z) (h : ∀ db ds : Nat → Int32, gx_sol n p q EN E A G f_won f_lost a_doomOf db ds → post (nI (gm_cn (fun t => ¬ gm_L n p q (gm_pre n EN E) A G (n * q) t) n)) (f_n, f_p, f_q, f_full, 1, f_won, f_lost, 0, f_tokenState, f_awaitedNumber, a_owners, a_succ, a_assume, a_guar, a_siegeLayers, a_doomOf, db, ds)) : ∀ d k, ∀ db : Nat → Int32, k + d = q → (∀ j, j < k → ∀ t, t < n → ∀ z, z < n * p → gm_D n p (gm_pre n EN E) A (gm_gl n p q (gm_pre n EN E) A G j) (z + 1) t → ¬ gm_D n p (gm_pre n EN E) A (gm_gl n p q (gm_pre n EN E) A G j) z t → db (t * 3 + j) = nI z) → wX_solve_13 post (d + 1) (nI k) f_n f_p f_q f_full f_solved f_won f_lost f_playing f_tokenState f_awaitedNumber a_owners a_succ a_assume a_guar a_siegeLayers a_doomOf db a_distOf := by
  have hn8 : n ≤ 8 := g.2.2.1
  have hfn : f_n = nI n := g.1
  have hfq : f_q = nI q := hg.1
  have hq3 : q ≤ 3 := hg.2.2.1
  intro d
  induction d with
  | zero =>
    intro k db hk hdb
    obtain rfl : k = q := by omega
    exact br_t (by rw [hfq]; exact nI_le (by omega) (by omega)) (xx_solveDistances g ha hg hl hsl hdm fun ds hds => xx_count hfn hn8 hw (h db ds ⟨hw, hl, hdm, hdb, hds⟩))
  | succ d ih =>
    intro k db hk hdb
    refine br_f (by rw [hfq]; exact nI_ge (by omega) (by omega)) (xx_solveChase g ha hg hf (by omega) hw fun db' hdb' hk' => nm_r (nI_1 k) (ih (k + 1) db' (by omega) fun j hj t ht z hz h1 h2 => ?_))
    by_cases e : j = k
    · subst e
      exact hdb' t ht z hz h1 h2
    · rw [hk' _ (by omega)]
      exact hdb j (by omega) t ht z hz h1 h2
theorem xx_solve0 {post : Int32 → SX → Prop} (g : gx_g n EN E f_n a_owners a_succ) (ha : gx_s n p A f_p a_assume) (hg : gx_s n q G f_q a_guar) (hf : ms_of n f_full (fun _ => True)) (h : ∀ (w l : Int32) (sl dm db ds : Nat → Int32), gx_sol n p q EN E A G w l dm db ds → post (nI (gm_cn (fun t => ¬ gm_L n p q (gm_pre n EN E) A G (n * q) t) n)) (f_n, f_p, f_q, f_full, 1, w, l, 0, f_tokenState, f_awaitedNumber, a_owners, a_succ, a_assume, a_guar, sl, dm, db, ds)) (hs : f_solved = 0) : wpX_solve post (f_n, f_p, f_q, f_full, f_solved, f_won, f_lost, f_playing, f_tokenState, f_awaitedNumber, a_owners, a_succ, a_assume, a_guar, a_siegeLayers, a_doomOf, a_debtOf, a_distOf) := by
  refine br_t hs (xx_solveSiege g ha hg hf fun w l sl dm hw hl hsl hdm => ?_)
  exact ⟨q + 1, xx_solve13 g ha hg hf hw hl hsl hdm (fun db ds hsol => h w l sl dm db ds hsol) q 0 a_debtOf (by omega) (fun j hj => by omega)⟩
theorem xx_solve1 {post : Int32 → SX → Prop} {S : Nat → Prop} (hfn : f_n = nI n) (hn : n ≤ 8) (h1 : ms_of n f_won S) (h : post (nI (gm_cn S n)) (f_n, f_p, f_q, f_full, f_solved, f_won, f_lost, f_playing, f_tokenState, f_awaitedNumber, a_owners, a_succ, a_assume, a_guar, a_siegeLayers, a_doomOf, a_debtOf, a_distOf)) (hs : ¬ f_solved = 0) : wpX_solve post (f_n, f_p, f_q, f_full, f_solved, f_won, f_lost, f_playing, f_tokenState, f_awaitedNumber, a_owners, a_succ, a_assume, a_guar, a_siegeLayers, a_doomOf, a_debtOf, a_distOf) :=
  br_f hs (xx_count hfn hn h1 h)
end
end
section
/-! ===== Y: has, envForces, reach ===== -/
section
variable {n p q : Nat} {EN : Nat → Prop} {E A G : Nat → Nat → Prop}
variable {f_n f_p f_q f_solved f_token f_awaited : Int32}
variable {a_ownerOf a_moveMask a_assumption a_guarantee a_doomOf a_mark : Nat → Int32}
theorem yy_has {post : Int32 → Prop} {m : Int32} {s : Nat} (hs : s < 32) (h1 : bt m s = true → post 1) (h0 : bt m s = false → post 0) : wpY_has post (f_n, f_p, f_q, f_solved, f_token, f_awaited, a_ownerOf, a_moveMask, a_assumption, a_guarantee, a_doomOf, a_mark) m (nI s) := by
  cases h : bt m s with
  | true => exact br_t (ms_h1 hs h) (h1 h)
  | false => exact br_f (by rw [ms_h0 hs h]; exact fun e => ms_ne10 e.symm) (h0 h)
theorem yy_has_s {post : Int32 → Prop} {m : Int32} {S : Nat → Prop} {s : Nat} (hn : n ≤ 8) (hs : s < n) (hm : ms_of n m S) (h1 : S s → post 1) (h0 : ¬ S s → post 0) : wpY_has post (f_n, f_p, f_q, f_solved, f_token, f_awaited, a_ownerOf, a_moveMask, a_assumption, a_guarantee, a_doomOf, a_mark) m (nI s) :=
  yy_has (by omega) (fun h => h1 ((ms_mem hn hm hs).1 h)) (fun h => h0 ((ms_nmem hn hm hs).1 h))
theorem yy_ef8 {post : Int32 → Prop} {b c : Nat} (g : gx_g n EN E f_n a_ownerOf a_moveMask) (hc : c < n) (hb : b + n ≤ 384) (h1 : gm_pre n EN E (fun t => ¬ a_mark (b + t) = 0) c → post 1) (h0 : ¬ gm_pre n EN E (fun t => ¬ a_mark (b + t) = 0) c → post 0) : ∀ d t x3 x4, t + d = n → (x3 = 0 ∨ x3 = 1) → (x4 = 0 ∨ x4 = 1) → (x3 = 1 ↔ ∃ s, s < t ∧ E c s ∧ ¬ a_mark (b + s) = 0) → (x4 = 1 ↔ ∀ s, s < t → E c s → ¬ a_mark (b + s) = 0) → wY_envForces_8 post (nI b) (nI c) f_n f_p f_q f_solved f_token f_awaited a_ownerOf a_moveMask a_assumption a_guarantee a_doomOf a_mark (d + 1) x3 x4 (nI t) := by
  obtain ⟨hfn, hn2, hn8, hO, hE, _⟩ := g
  have clc : (nI c).toNatClampNeg = c := nI_clamp (by omega)
  intro d
  induction d with
  | zero =>
    intro t x3 x4 ht h3 h4 e3 e4
    obtain rfl : t = n := by omega
    refine br_t (by rw [hfn]; exact nI_le (by omega) (by omega)) ⟨vp_in_nI (by omega) (by omega), ?_⟩
    rw [clc]
    rcases hO c hc with ⟨ho, hEN⟩ | ⟨ho, hEN⟩
    · refine br_t ho ?_
      rcases h3 with h3 | h3
      · subst h3
        exact ⟨narrow_b0, h0 fun hh => ms_ne10 (e3.2 (hh.1 hEN)).symm⟩
      · subst h3
        exact ⟨narrow_b1, h1 ⟨fun _ => e3.1 rfl, fun hh => absurd hEN hh⟩⟩
    · refine br_f (by rw [ho]; exact ms_ne10) ?_
      rcases h4 with h4 | h4
      · subst h4
        exact ⟨narrow_b0, h0 fun hh => ms_ne10 (e4.2 (hh.2 hEN)).symm⟩
      · subst h4
        exact ⟨narrow_b1, h1 ⟨fun hh => absurd hh hEN, fun _ => e4.1 rfl⟩⟩
  | succ d ih =>
    intro t x3 x4 ht h3 h4 e3 e4
    have htn : t < n := by omega
    have cl : (nI b + nI t).toNatClampNeg = b + t := by rw [nI_add]; exact nI_clamp (by omega)
    refine br_f (by rw [hfn]; exact nI_ge (by omega) (by omega)) ⟨vp_in_nI (by omega) (by omega), ?_⟩
    rw [clc]
    refine yy_has_s hn8 htn (hE c hc) (fun hm => br_f ms_ne10 ⟨by rw [nI_add]; exact vp_in_nI (by omega) (by omega), ?_⟩) (fun hm => br_t rfl (nm_r (nI_1 t) (ih (t + 1) x3 x4 (by omega) h3 h4 ?_ ?_)))
    · rw [cl]
      refine br_c (fun hk => nm_r (nI_1 t) (ih (t + 1) x3 0 (by omega) h3 (Or.inl rfl) ?_ ?_)) (fun hk => nm_r (nI_1 t) (ih (t + 1) 1 x4 (by omega) (Or.inr rfl) h4 ?_ ?_))
      · rw [e3]
        constructor
        · rintro ⟨s, h5, h6⟩; exact ⟨s, by omega, h6⟩
        · rintro ⟨s, h5, h6, h7⟩
          by_cases e : s = t
          · subst e; exact absurd hk h7
          · exact ⟨s, by omega, h6, h7⟩
      · exact ⟨fun h5 => absurd h5.symm ms_ne10, fun h5 => absurd hk (h5 t (by omega) hm)⟩
      · exact ⟨fun _ => ⟨t, by omega, hm, hk⟩, fun _ => rfl⟩
      · rw [e4]
        constructor
        · intro h5 s h6 h7
          by_cases e : s = t
          · subst e; exact hk
          · exact h5 s (by omega) h7
        · intro h5 s h6 h7; exact h5 s (by omega) h7
    · rw [e3]
      constructor
      · rintro ⟨s, h5, h6⟩; exact ⟨s, by omega, h6⟩
      · rintro ⟨s, h5, h6, h7⟩
        by_cases e : s = t
        · subst e; exact absurd h6 hm
        · exact ⟨s, by omega, h6, h7⟩
    · rw [e4]
      constructor
      · intro h5 s h6 h7
        by_cases e : s = t
        · subst e; exact absurd h7 hm
        · exact h5 s (by omega) h7
      · intro h5 s h6 h7; exact h5 s (by omega) h7
theorem yy_ef {post : Int32 → Prop} {xb xc : Int32} (b c : Nat) (g : gx_g n EN E f_n a_ownerOf a_moveMask) (hxb : xb = nI b) (hxc : xc = nI c) (hc : c < n) (hb : b + n ≤ 384) (h1 : gm_pre n EN E (fun t => ¬ a_mark (b + t) = 0) c → post 1) (h0 : ¬ gm_pre n EN E (fun t => ¬ a_mark (b + t) = 0) c → post 0) : wpY_envForces post (f_n, f_p, f_q, f_solved, f_token, f_awaited, a_ownerOf, a_moveMask, a_assumption, a_guarantee, a_doomOf, a_mark) xb xc := by
  subst hxb hxc
  exact ⟨n + 1, yy_ef8 g hc hb h1 h0 n 0 0 1 (by omega) (Or.inl rfl) (Or.inr rfl) ⟨fun h => absurd h.symm ms_ne10, fun ⟨s, hs, _⟩ => by omega⟩ ⟨fun _ s hs => by omega, fun _ => rfl⟩⟩
theorem yy_x8 (r : Nat) : nI r * 8 = nI (r * 8) := by
  show nI r * nI 8 = _
  rw [pk_mul]
theorem yy_192 (r : Nat) : 192 + nI r = nI (192 + r) := by
  show nI 192 + nI r = _
  rw [nI_add]
theorem yy_192c {r : Nat} (h : r < 192) : (192 + nI r).toNatClampNeg = 192 + r := by
  rw [yy_192]; exact nI_clamp (by omega)
theorem yy_192i {r : Nat} (h : r < 192) : vp_in (192 + nI r) 384 := by
  rw [yy_192]; exact vp_in_nI (by omega) (by omega)
/-- what the reach of assumption i asks at a position with rest r -/
def yy_C (n : Nat) (EN : Nat → Prop) (E : Nat → Nat → Prop) (a : Nat → Prop) (mk : Nat → Int32) (r c : Nat) : Prop := (a c ∧ gm_pre n EN E (fun t => ¬ mk (r * 8 + t) = 0) c) ∨ gm_pre n EN E (fun t => ¬ mk (192 + r * 8 + t) = 0) c
theorem yy_r125 {post : SY → Prop} {J30 J46 : Int32 → Int32 → (Nat → Int32) → (Nat → Int32) → (Nat → Int32) → (Nat → Int32) → (Nat → Int32) → (Nat → Int32) → Prop} {x2 x3 z0 : Int32} {i k c r : Nat} (g : gx_g n EN E f_n a_ownerOf a_moveMask) (ha : gx_s n p A f_p a_assumption) (hi : i < p) (hk : k < 192) (hc : c < n) (hr : r < 24) (hz : z0 = nI r) (hyes : yy_C n EN E (A i) a_mark r c → J46 1 (nI (k + 1)) a_ownerOf a_moveMask a_assumption a_guarantee a_doomOf (upd a_mark (192 + k) 1)) (hno : ¬ yy_C n EN E (A i) a_mark r c → J46 x2 (nI (k + 1)) a_ownerOf a_moveMask a_assumption a_guarantee a_doomOf a_mark) : wY_reach_125 post J30 J46 (nI i) x2 x3 (nI k) (nI c) z0 f_n f_p f_q f_solved f_token f_awaited a_ownerOf a_moveMask a_assumption a_guarantee a_doomOf a_mark := by
  subst hz
  have hn8 : n ≤ 8 := g.2.2.1
  have hp3 : p ≤ 3 := ha.2.2.1
  have cli : (nI i).toNatClampNeg = i := nI_clamp (by omega)
  have h194 : yy_C n EN E (A i) a_mark r c → wY_reach_194 post J30 J46 (nI i) x3 (nI k) f_n f_p f_q f_solved f_token f_awaited a_ownerOf a_moveMask a_assumption a_guarantee a_doomOf a_mark := fun h => ⟨yy_192i hk, nm_r (e' := upd a_mark (192 + k) 1) (by rw [yy_192c hk]; rfl) (nm_r (nI_1 k) (hyes h))⟩
  have h169 : ¬ (A i c ∧ gm_pre n EN E (fun t => ¬ a_mark (r * 8 + t) = 0) c) → wY_reach_168 post J30 J46 (nI i) x2 x3 (nI k) (nI c) (nI r) f_n f_p f_q f_solved f_token f_awaited a_ownerOf a_moveMask a_assumption a_guarantee a_doomOf a_mark := by
    intro hv
    refine br_t rfl (yy_ef (192 + r * 8) c g (by rw [yy_x8, yy_192]) rfl hc (by omega) (fun h => br_f ms_ne10 (h194 (Or.inr h))) (fun h => br_t rfl (nm_r (nI_1 k) (hno fun hC => ?_))))
    rcases hC with hC | hC
    · exact hv hC
    · exact h hC
  refine br_t (nI_pos' (by omega)) ⟨vp_in_nI (by omega) (by omega), ?_⟩
  rw [cli]
  refine yy_has_s hn8 hc (ha.2.2.2 i hi) (fun hA => br_f ms_ne10 (yy_ef (r * 8) c g (yy_x8 r) rfl hc (by omega) (fun h => br_f ms_ne10 ?_) (fun h => br_t rfl (h169 fun hh => h hh.2)))) (fun hA => br_t rfl (h169 fun hh => hA hh.1))
  exact br_f ms_ne10 (h194 (Or.inl ⟨hA, h⟩))
/-- the step of the pure reach, over the marks -/
def yy_S (q n : Nat) (EN : Nat → Prop) (E : Nat → Nat → Prop) (a : Nat → Prop) (G : Nat → Nat → Prop) (mk : Nat → Int32) (k : Nat) : Prop := ∃ r, gm_rest q G k r ∧ yy_C n EN E a mk r (k % 8)
theorem yy_S_St {a : Nat → Prop} {mk : Nat → Int32} {k : Nat} : yy_S q n EN E a G mk k ↔ gm_St q (gm_pre n EN E) a G (fun k => ¬ mk k = 0) (fun k => ¬ mk (192 + k) = 0) k := by
  constructor
  · rintro ⟨r, hr, h⟩
    refine ⟨r, hr, ?_⟩
    rcases h with h | h
    · exact Or.inl h
    · refine Or.inr ?_
      have e : (fun t => ¬ mk (192 + r * 8 + t) = 0) = (fun t => ¬ mk (192 + (r * 8 + t)) = 0) := by
        funext t; rw [Nat.add_assoc]
      rw [← e]; exact h
  · rintro ⟨r, hr, h⟩
    refine ⟨r, hr, ?_⟩
    rcases h with h | h
    · exact Or.inl h
    · refine Or.inr ?_
      have e : (fun t => ¬ mk (192 + r * 8 + t) = 0) = (fun t => ¬ mk (192 + (r * 8 + t)) = 0) := by
        funext t; rw [Nat.add_assoc]
      rw [e]; exact h
theorem yy_rem8 {k : Nat} (hk : k < 192) : nI k - nI k / 8 * 8 = nI (k % 8) := pk_rem (d := 8) (by omega) (by omega) (by omega)
theorem yy_div8 {k : Nat} (hk : k < 192) : nI k / 8 = nI (k / 8) := pk_div (d := 8) (by omega) (by omega) (by omega)
theorem yy_8 : ¬ (8 : Int32) = 0 := by decide
/-- one position of a pass -/
theorem yy_r46s {post : SY → Prop} {J30 : Int32 → Int32 → (Nat → Int32) → (Nat → Int32) → (Nat → Int32) → (Nat → Int32) → (Nat → Int32) → (Nat → Int32) → Prop} {x2 x3 : Int32} {i k m : Nat} (g : gx_g n EN E f_n a_ownerOf a_moveMask) (ha : gx_s n p A f_p a_assumption) (hg : gx_s n q G f_q a_guarantee) (hi : i < p) (hk : k < 192) (hM : ¬ a_mark k = 0 → k % 8 < n) (hyes : ¬ a_mark k = 0 → a_mark (192 + k) = 0 → yy_S q n EN E (A i) G a_mark k → wY_reach_46 post J30 (nI i) x3 f_n f_p f_q f_solved f_token f_awaited m 1 (nI (k + 1)) a_ownerOf a_moveMask a_assumption a_guarantee a_doomOf (upd a_mark (192 + k) 1)) (hno : (¬ a_mark k = 0 → a_mark (192 + k) = 0 → ¬ yy_S q n EN E (A i) G a_mark k) → wY_reach_46 post J30 (nI i) x3 f_n f_p f_q f_solved f_token f_awaited m x2 (nI (k + 1)) a_ownerOf a_moveMask a_assumption a_guarantee a_doomOf a_mark) : wY_reach_46 post J30 (nI i) x3 f_n f_p f_q f_solved f_token f_awaited (m + 1) x2 (nI k) a_ownerOf a_moveMask a_assumption a_guarantee a_doomOf a_mark := by
  have hn8 : n ≤ 8 := g.2.2.1
  obtain ⟨hfq, hq1, hq3, hG⟩ := hg
  have cl : (nI k).toNatClampNeg = k := nI_clamp (by omega)
  refine br_f (nI_ge (b := 192) hk (by omega)) ⟨vp_in_nI (by omega) (by omega), ?_⟩
  rw [cl]
  refine br_c (fun h0 => nm_r (nI_1 k) (hno fun h1 => absurd h0 h1)) (fun h1 => ⟨yy_192i hk, ?_⟩)
  rw [yy_192c hk]
  refine br_c (fun h2 => ⟨yy_8, nm_r (yy_rem8 hk) ⟨yy_8, nm_r (yy_div8 hk) ⟨by rw [hfq]; exact nI_ne0 hq1 (by omega), ?_⟩⟩⟩) (fun h2 => nm_r (nI_1 k) (hno fun _ h3 => absurd h3 h2))
  have hrem : nI (k / 8) - nI (k / 8) / f_q * f_q = nI (k / 8 % q) := by rw [hfq]; exact pk_rem (by omega) hq1 (by omega)
  have hm := Nat.mod_lt (k / 8) hq1
  have hc := hM h1
  rw [hrem]
  refine ⟨vp_in_nI (by omega) (by omega), ?_⟩
  rw [nI_clamp (show k / 8 % q < 2 ^ 31 by omega)]
  refine yy_has_s hn8 hc (hG (k / 8 % q) hm) (fun hgg => br_f ms_ne10 ?_) (fun hgg => br_t rfl ?_)
  · rcases Nat.eq_zero_or_pos (k / 8) with h3 | h3
    · rw [h3]
      refine br_f (by decide) (nm_r (nI_1 k) (hno fun _ _ hS => ?_))
      obtain ⟨r, hr, _⟩ := hS
      rcases hr with ⟨_, hr⟩ | ⟨hr, _⟩
      · omega
      · exact hr hgg
    · obtain ⟨r, hr⟩ : ∃ r, k / 8 = r + 1 := ⟨k / 8 - 1, by omega⟩
      refine yy_r125 (r := r) g ha hi hk hc (by omega) (by rw [hr]; exact nI_pred r) (fun hC => hyes h1 h2 ⟨r, Or.inl ⟨hgg, hr⟩, hC⟩) (fun hC => hno fun _ _ hS => ?_)
      obtain ⟨r', hr', hC'⟩ := hS
      rcases hr' with ⟨_, hr'⟩ | ⟨hr', _⟩
      · obtain rfl : r' = r := by omega
        exact hC hC'
      · exact hr' hgg
  · refine yy_r125 (r := k / 8) g ha hi hk hc (by omega) rfl (fun hC => hyes h1 h2 ⟨k / 8, Or.inr ⟨hgg, rfl⟩, hC⟩) (fun hC => hno fun _ _ hS => ?_)
    obtain ⟨r', hr', hC'⟩ := hS
    rcases hr' with ⟨hr', _⟩ | ⟨_, hr'⟩
    · exact hgg hr'
    · subst hr'
      exact hC hC'
end
end
section
/-! ===== Y: the passes of reach ===== -/
theorem gm_YR_cg {n q : Nat} {P : (Nat → Prop) → Nat → Prop} {a : Nat → Prop} {G : Nat → Nat → Prop} (m : gm_mono n P) (hn : n ≤ 8) {M M' : Nat → Prop} (hMn : ∀ k, k < 192 → M k → k % 8 < n) (h : ∀ k, k < 192 → (M k ↔ M' k)) {k : Nat} (h1 : gm_YR q P a G M k) : gm_YR q P a G M' k := by
  intro S hS
  refine h1 S fun k hk hMk hSt => hS k hk ((h k hk).1 hMk) ?_
  obtain ⟨r, hr, h2⟩ := hSt
  refine ⟨r, hr, ?_⟩
  have hr' : r < 24 := by
    rcases hr with ⟨_, hr⟩ | ⟨_, hr⟩ <;> omega
  rcases h2 with ⟨h2, h3⟩ | h2
  · exact Or.inl ⟨h2, m _ _ (fun t ht hh => (h _ (by omega)).1 hh) _ (hMn k hk hMk) h3⟩
  · exact Or.inr h2
section
variable {n p q : Nat} {EN : Nat → Prop} {E A G : Nat → Nat → Prop}
variable {f_n f_p f_q f_solved f_token f_awaited : Int32}
variable {a_ownerOf a_moveMask a_assumption a_guarantee a_doomOf a_mark : Nat → Int32}
/-- the marks of a reach under way: the first half stands, the second is sound -/
def yy_I (q n : Nat) (EN : Nat → Prop) (E : Nat → Nat → Prop) (a : Nat → Prop) (G : Nat → Nat → Prop) (m0 mk : Nat → Int32) : Prop := (∀ j, j < 192 → mk j = m0 j) ∧ (∀ j, j < 192 → ¬ mk (192 + j) = 0 → gm_YR q (gm_pre n EN E) a G (fun k => ¬ m0 k = 0) j)
theorem yy_I_put {a : Nat → Prop} {m0 mk : Nat → Int32} {k : Nat} (hn : n ≤ 8) (hM : ∀ j, j < 192 → ¬ m0 j = 0 → j % 8 < n) (I : yy_I q n EN E a G m0 mk) (hk : k < 192) (hm : ¬ mk k = 0) (hS : yy_S q n EN E a G mk k) : yy_I q n EN E a G m0 (upd mk (192 + k) 1) := by
  refine ⟨fun j hj => ?_, fun j hj h => ?_⟩
  · rw [pk_un (by omega)]; exact I.1 j hj
  · by_cases e : j = k
    · subst e
      have hm0 : ¬ m0 j = 0 := by rw [← I.1 j hj]; exact hm
      refine gm_YR_fold gm_pre_mono hk (hM j hj hm0) hm0 ?_
      obtain ⟨r, hr, h2⟩ := yy_S_St.1 hS
      have hr' : r < 24 := by
        rcases hr with ⟨_, hr⟩ | ⟨_, hr⟩ <;> omega
      refine ⟨r, hr, ?_⟩
      rcases h2 with ⟨h2, h3⟩ | h2
      · exact Or.inl ⟨h2, gm_pre_mono _ _ (fun t ht hh => by show ¬ m0 (r * 8 + t) = 0; rw [← I.1 (r * 8 + t) (by omega)]; exact hh) _ (hM j hj hm0) h3⟩
      · exact Or.inr (gm_pre_mono _ _ (fun t ht hh => I.2 _ (by omega) hh) _ (hM j hj hm0) h2)
    · rw [pk_un (by omega)] at h
      exact I.2 j hj h
noncomputable def yy_c2 (mk : Nat → Int32) : Nat := gm_cn (fun j => ¬ mk (192 + j) = 0) 192
theorem yy_c2_le (mk : Nat → Int32) : yy_c2 mk ≤ 192 := gm_cn_le _ _
theorem yy_c2_put {mk : Nat → Int32} {k : Nat} (hk : k < 192) (h : mk (192 + k) = 0) : yy_c2 mk < yy_c2 (upd mk (192 + k) 1) := by
  refine gm_cn_lt 192 (fun t ht h1 => ?_) k hk ?_ (fun h1 => h1 h)
  · have e : t ≠ k := fun e => h1 (by rw [e]; exact h)
    rw [pk_un (by omega)]; exact h1
  · rw [pk_us]; exact ms_ne10
theorem yy_r46 {post : SY → Prop} {J30 : Int32 → Int32 → (Nat → Int32) → (Nat → Int32) → (Nat → Int32) → (Nat → Int32) → (Nat → Int32) → (Nat → Int32) → Prop} {i ps : Nat} {m0 : Nat → Int32} (g : gx_g n EN E f_n a_ownerOf a_moveMask) (ha : gx_s n p A f_p a_assumption) (hg : gx_s n q G f_q a_guarantee) (hi : i < p) (hM : ∀ j, j < 192 → ¬ m0 j = 0 → j % 8 < n) (hJ : ∀ (x2 : Int32) (mk : Nat → Int32), yy_I q n EN E (A i) G m0 mk → (x2 = 0 ∨ x2 = 1) → (x2 = 0 → ∀ j, j < 192 → ¬ mk j = 0 → mk (192 + j) = 0 → ¬ yy_S q n EN E (A i) G mk j) → (x2 = 1 → ps + 1 ≤ yy_c2 mk) → J30 x2 (nI (ps + 1)) a_ownerOf a_moveMask a_assumption a_guarantee a_doomOf mk) : ∀ d k x2, ∀ mk : Nat → Int32, k + d = 192 → yy_I q n EN E (A i) G m0 mk → (x2 = 0 ∨ x2 = 1) → (x2 = 0 → ∀ j, j < k → ¬ mk j = 0 → mk (192 + j) = 0 → ¬ yy_S q n EN E (A i) G mk j) → ps ≤ yy_c2 mk → (x2 = 1 → ps + 1 ≤ yy_c2 mk) → wY_reach_46 post J30 (nI i) (nI ps) f_n f_p f_q f_solved f_token f_awaited (d + 1) x2 (nI k) a_ownerOf a_moveMask a_assumption a_guarantee a_doomOf mk := by
  intro d
  induction d with
  | zero =>
    intro k x2 mk hk I h2 h0 hc h1
    obtain rfl : k = 192 := by omega
    exact br_t (nI_le (a := 192) (by omega) (by omega)) (nm_r (nI_1 ps) (hJ x2 mk I h2 h0 h1))
  | succ d ih =>
    intro k x2 mk hk I h2 h0 hc h1
    have hk' : k < 192 := by omega
    refine yy_r46s g ha hg hi hk' (fun h => hM k hk' (by rw [← I.1 k hk']; exact h)) (fun h3 h4 hS => ?_) (fun hS => ?_)
    · have h5 := yy_c2_put hk' h4
      exact ih (k + 1) 1 _ (by omega) (yy_I_put g.2.2.1 hM I hk' h3 hS) (Or.inr rfl) (fun h => absurd h ms_ne10) (by omega) (fun _ => by omega)
    · refine ih (k + 1) x2 mk (by omega) I h2 (fun hx j hj => ?_) hc h1
      by_cases e : j = k
      · subst e; exact hS
      · exact h0 hx j (by omega)
theorem yy_r30 {post : SY → Prop} {i : Nat} {m0 : Nat → Int32} (g : gx_g n EN E f_n a_ownerOf a_moveMask) (ha : gx_s n p A f_p a_assumption) (hg : gx_s n q G f_q a_guarantee) (hi : i < p) (hM : ∀ j, j < 192 → ¬ m0 j = 0 → j % 8 < n) (h : ∀ mk : Nat → Int32, (∀ j, j < 192 → mk j = m0 j) → (∀ j, j < 192 → (¬ mk (192 + j) = 0 ↔ gm_YR q (gm_pre n EN E) (A i) G (fun k => ¬ m0 k = 0) j)) → post (f_n, f_p, f_q, f_solved, f_token, f_awaited, a_ownerOf, a_moveMask, a_assumption, a_guarantee, a_doomOf, mk)) : ∀ d ps x2, ∀ mk : Nat → Int32, ps + d = 193 → yy_I q n EN E (A i) G m0 mk → (x2 = 0 ∨ x2 = 1) → (x2 = 0 → ∀ j, j < 192 → ¬ mk j = 0 → mk (192 + j) = 0 → ¬ yy_S q n EN E (A i) G mk j) → (x2 = 1 → ps ≤ yy_c2 mk) → wY_reach_30 post (nI i) f_n f_p f_q f_solved f_token f_awaited (d + 1) x2 (nI ps) a_ownerOf a_moveMask a_assumption a_guarantee a_doomOf mk := by
  have hn8 : n ≤ 8 := g.2.2.1
  intro d
  induction d with
  | zero =>
    intro ps x2 mk hps I h2 h0 h1
    rcases h2 with h2 | h2
    · subst h2
      refine br_t rfl (h mk I.1 fun j hj => ⟨I.2 j hj, fun hY => ?_⟩)
      refine hY (fun j => j < 192 → ¬ mk (192 + j) = 0) (fun k hk hMk hSt _ hz => ?_) hj
      have hkn := hM k hk hMk
      refine h0 rfl k hk (by rw [I.1 k hk]; exact hMk) hz (yy_S_St.2 ?_)
      obtain ⟨r, hr, h3⟩ := hSt
      have hr' : r < 24 := by
        rcases hr with ⟨_, hr⟩ | ⟨_, hr⟩ <;> omega
      refine ⟨r, hr, ?_⟩
      rcases h3 with ⟨h3, h4⟩ | h3
      · exact Or.inl ⟨h3, gm_pre_mono _ _ (fun t ht hh => by show ¬ mk (r * 8 + t) = 0; rw [I.1 (r * 8 + t) (by omega)]; exact hh) _ hkn h4⟩
      · exact Or.inr (gm_pre_mono _ _ (fun t ht hh => hh (by omega)) _ hkn h3)
    · have h3 := h1 h2
      have h4 := yy_c2_le mk
      omega
  | succ d ih =>
    intro ps x2 mk hps I h2 h0 h1
    rcases h2 with h2 | h2
    · subst h2
      refine br_t rfl (h mk I.1 fun j hj => ⟨I.2 j hj, fun hY => ?_⟩)
      refine hY (fun j => j < 192 → ¬ mk (192 + j) = 0) (fun k hk hMk hSt _ hz => ?_) hj
      have hkn := hM k hk hMk
      refine h0 rfl k hk (by rw [I.1 k hk]; exact hMk) hz (yy_S_St.2 ?_)
      obtain ⟨r, hr, h3⟩ := hSt
      have hr' : r < 24 := by
        rcases hr with ⟨_, hr⟩ | ⟨_, hr⟩ <;> omega
      refine ⟨r, hr, ?_⟩
      rcases h3 with ⟨h3, h4⟩ | h3
      · exact Or.inl ⟨h3, gm_pre_mono _ _ (fun t ht hh => by show ¬ mk (r * 8 + t) = 0; rw [I.1 (r * 8 + t) (by omega)]; exact hh) _ hkn h4⟩
      · exact Or.inr (gm_pre_mono _ _ (fun t ht hh => hh (by omega)) _ hkn h3)
    · subst h2
      refine br_f ms_ne10 (br_f (nI_nlt (b := ps) (a := 192) (by omega) (by omega)) ⟨192 + 1, ?_⟩)
      exact yy_r46 g ha hg hi hM (fun x2 mk I h2 h0 h1 => ih (ps + 1) x2 mk (by omega) I h2 h0 h1) 192 0 0 mk (by omega) I (Or.inl rfl) (fun _ j hj => by omega) (h1 rfl) (fun h => absurd h.symm ms_ne10)
theorem yy_r2 {post : SY → Prop} {i : Nat} {m0 : Nat → Int32} (g : gx_g n EN E f_n a_ownerOf a_moveMask) (ha : gx_s n p A f_p a_assumption) (hg : gx_s n q G f_q a_guarantee) (hi : i < p) (hM : ∀ j, j < 192 → ¬ m0 j = 0 → j % 8 < n) (h : ∀ mk : Nat → Int32, (∀ j, j < 192 → mk j = m0 j) → (∀ j, j < 192 → (¬ mk (192 + j) = 0 ↔ gm_YR q (gm_pre n EN E) (A i) G (fun k => ¬ m0 k = 0) j)) → post (f_n, f_p, f_q, f_solved, f_token, f_awaited, a_ownerOf, a_moveMask, a_assumption, a_guarantee, a_doomOf, mk)) : ∀ d k, ∀ mk : Nat → Int32, k + d = 192 → (∀ j, j < 192 → mk j = m0 j) → (∀ j, j < k → mk (192 + j) = 0) → wY_reach_2 post (nI i) f_n f_p f_q f_solved f_token f_awaited (d + 1) (nI k) a_ownerOf a_moveMask a_assumption a_guarantee a_doomOf mk := by
  intro d
  induction d with
  | zero =>
    intro k mk hk h1 h2
    obtain rfl : k = 192 := by omega
    refine br_t (nI_le (a := 192) (by omega) (by omega)) ⟨193 + 1, ?_⟩
    exact yy_r30 g ha hg hi hM h 193 0 1 mk (by omega) ⟨h1, fun j hj h3 => absurd (h2 j hj) h3⟩ (Or.inr rfl) (fun h => absurd h ms_ne10) (fun _ => Nat.zero_le _)
  | succ d ih =>
    intro k mk hk h1 h2
    have hk' : k < 192 := by omega
    refine br_f (nI_ge (b := 192) hk' (by omega)) ⟨yy_192i hk', nm_r (e' := upd mk (192 + k) 0) (by rw [yy_192c hk']; rfl) (nm_r (nI_1 k) (ih (k + 1) _ (by omega) (fun j hj => ?_) (fun j hj => ?_)))⟩
    · rw [pk_un (by omega)]; exact h1 j hj
    · by_cases e : j = k
      · subst e; rw [pk_us]
      · rw [pk_un (by omega)]; exact h2 j (by omega)
theorem yy_reach {post : SY → Prop} {i : Nat} (g : gx_g n EN E f_n a_ownerOf a_moveMask) (ha : gx_s n p A f_p a_assumption) (hg : gx_s n q G f_q a_guarantee) (hi : i < p) (hM : ∀ j, j < 192 → ¬ a_mark j = 0 → j % 8 < n) (h : ∀ mk : Nat → Int32, (∀ j, j < 192 → mk j = a_mark j) → (∀ j, j < 192 → (¬ mk (192 + j) = 0 ↔ gm_YR q (gm_pre n EN E) (A i) G (fun k => ¬ a_mark k = 0) j)) → post (f_n, f_p, f_q, f_solved, f_token, f_awaited, a_ownerOf, a_moveMask, a_assumption, a_guarantee, a_doomOf, mk)) : wpY_reach post (f_n, f_p, f_q, f_solved, f_token, f_awaited, a_ownerOf, a_moveMask, a_assumption, a_guarantee, a_doomOf, a_mark) (nI i) :=
  ⟨192 + 1, yy_r2 g ha hg hi hM h 192 0 a_mark (by omega) (fun _ _ => rfl) (fun j hj => by omega)⟩
end
end
section
/-! ===== Y: sieges ===== -/
/-- what Y holds when it is solved -/
def gy_sol (n p q : Nat) (EN : Nat → Prop) (E A G : Nat → Nat → Prop) (dm : Nat → Int32) : Prop := (∀ t, t < n → ¬ gm_L n p q (gm_pre n EN E) A G (n * q) t → dm t = -1) ∧ (∀ t, t < n → ∀ z, z < n * q → gm_L n p q (gm_pre n EN E) A G (z + 1) t → ¬ gm_L n p q (gm_pre n EN E) A G z t → dm t = nI z)
noncomputable def yy_c1 (mk : Nat → Int32) : Nat := gm_cn (fun j => ¬ mk j = 0) 192
theorem yy_c1_le (mk : Nat → Int32) : yy_c1 mk ≤ 192 := gm_cn_le _ _
theorem yy_c1_cg {mk mk' : Nat → Int32} (h : ∀ j, j < 192 → mk j = mk' j) : yy_c1 mk = yy_c1 mk' := by
  refine gm_cn_congr 192 fun t ht => ?_
  rw [h t ht]
theorem yy_c1_cut {mk : Nat → Int32} {k : Nat} (hk : k < 192) (h : ¬ mk k = 0) : yy_c1 (upd mk k 0) < yy_c1 mk := by
  refine gm_cn_lt 192 (fun t ht h1 => ?_) k hk h (fun h1 => h1 pk_us)
  by_cases e : t = k
  · subst e; exact absurd pk_us h1
  · rw [pk_un e] at h1; exact h1
section
variable {n p q : Nat} {EN : Nat → Prop} {E A G : Nat → Nat → Prop}
variable {f_n f_p f_q f_solved f_token f_awaited : Int32}
variable {a_ownerOf a_moveMask a_assumption a_guarantee a_doomOf a_mark : Nat → Int32}
/-- the marks left: they hold the layers, and lie below n -/
def yy_K (n p q : Nat) (EN : Nat → Prop) (E A G : Nat → Nat → Prop) (mk : Nat → Int32) : Prop := (∀ y c, y < 24 → c < n → gm_L n p q (gm_pre n EN E) A G (y + 1) c → ¬ mk (y * 8 + c) = 0) ∧ (∀ j, j < 192 → ¬ mk j = 0 → j % 8 < n)
def yy_All (n p q : Nat) (EN : Nat → Prop) (E A G : Nat → Nat → Prop) (i : Nat) (mk : Nat → Int32) : Prop := ∀ i', i' < i → ∀ j, j < 192 → ¬ mk j = 0 → gm_YR q (gm_pre n EN E) (A i') G (fun k => ¬ mk k = 0) j
theorem yy_K_L (hp : 0 < p) (hn : n ≤ 8) {mk : Nat → Int32} (K : yy_K n p q EN E A G mk) (hA : yy_All n p q EN E A G p mk) {y c : Nat} (hy : y < 24) (hc : c < n) : ¬ mk (y * 8 + c) = 0 ↔ gm_L n p q (gm_pre n EN E) A G (y + 1) c :=
  ⟨fun h => gm_Y_sup (M := fun k => ¬ mk k = 0) gm_pre_mono hp hn K.2 hA y c hy hc h, K.1 y c hy hc⟩
/-- the doom of one state: purses 23 .. 0 -/
theorem yy_s175 {post : SY → Prop} {J : Int32 → (Nat → Int32) → (Nat → Int32) → (Nat → Int32) → (Nat → Int32) → (Nat → Int32) → (Nat → Int32) → Prop} {s : Nat} {d0 : Nat → Int32} (hs : s < 8) (hJ : ∀ dm : Nat → Int32, (∀ t, t ≠ s → dm t = d0 t) → ((∀ y, y < 24 → a_mark (y * 8 + s) = 0) → dm s = -1) → (∀ y, y < 24 → ¬ a_mark (y * 8 + s) = 0 → (∀ z, z < y → a_mark (z * 8 + s) = 0) → dm s = nI y) → J (nI (s + 1)) a_ownerOf a_moveMask a_assumption a_guarantee dm a_mark) : ∀ y, ∀ (x3 : Int32) (dm : Nat → Int32), x3 = nI y - 1 → y ≤ 24 → (∀ t, t ≠ s → dm t = d0 t) → ((∀ z, y ≤ z → z < 24 → a_mark (z * 8 + s) = 0) → dm s = -1) → (∀ z, y ≤ z → z < 24 → ¬ a_mark (z * 8 + s) = 0 → (∀ w, y ≤ w → w < z → a_mark (w * 8 + s) = 0) → dm s = nI z) → wY_sieges_175 post J (nI s) f_n f_p f_q f_solved f_token f_awaited (y + 1) x3 a_ownerOf a_moveMask a_assumption a_guarantee dm a_mark := by
  intro y
  induction y with
  | zero =>
    intro x3 dm hx _ h1 h2 h3
    refine br_t (by rw [hx]; decide) (nm_r (nI_1 s) (hJ dm h1 (fun h => h2 fun z _ hz => h z hz) (fun z hz h4 h5 => h3 z (Nat.zero_le _) hz h4 fun w _ hw => h5 w hw)))
  | succ y ih =>
    intro x3 dm hx hy h1 h2 h3
    rw [nI_pred] at hx
    subst hx
    have e8 : nI y * 8 + nI s = nI (y * 8 + s) := by rw [yy_x8, nI_add]
    have cl : (nI y * 8 + nI s).toNatClampNeg = y * 8 + s := by rw [e8]; exact nI_clamp (by omega)
    have cls : (nI s).toNatClampNeg = s := nI_clamp (by omega)
    have hm1 : nI y + (-1) = nI y - 1 := by rw [Int32.sub_eq_add_neg]
    refine br_f (nI_pos (by omega)) ⟨by rw [e8]; exact vp_in_nI (by omega) (by omega), ?_⟩
    rw [cl]
    refine br_c (fun h4 => nm_r hm1 (ih _ dm rfl (by omega) h1 (fun h => h2 fun z hz hz2 => h z (by omega) hz2) (fun z hz hz2 h5 h6 => h3 z ?_ hz2 h5 fun w hw hw2 => h6 w (by omega) hw2))) (fun h4 => ⟨vp_in_nI (by omega) (by omega), nm_r (e' := upd dm s (nI y)) (by rw [cls]) (nm_r hm1 (ih _ _ rfl (by omega) (fun t ht => ?_) (fun h => absurd (h y (by omega) (by omega)) h4) (fun z hz hz2 h5 h6 => ?_)))⟩)
    · rcases Nat.lt_or_ge z (y + 1) with h7 | h7
      · obtain rfl : z = y := by omega
        exact absurd h4 h5
      · exact h7
    · rw [pk_un ht]; exact h1 t ht
    · rw [pk_us]
      by_cases e : z = y
      · rw [e]
      · exact absurd (h6 y (by omega) (by omega)) h4
theorem yy_s157 {post : SY → Prop} (hfn : f_n = nI n) (hn : n ≤ 8) (h : ∀ dm : Nat → Int32, (∀ t, t < n → ((∀ y, y < 24 → a_mark (y * 8 + t) = 0) → dm t = -1) ∧ (∀ y, y < 24 → ¬ a_mark (y * 8 + t) = 0 → (∀ z, z < y → a_mark (z * 8 + t) = 0) → dm t = nI y)) → post (f_n, f_p, f_q, f_solved, f_token, f_awaited, a_ownerOf, a_moveMask, a_assumption, a_guarantee, dm, a_mark)) : ∀ d s, ∀ dm : Nat → Int32, s + d = n → (∀ t, t < s → ((∀ y, y < 24 → a_mark (y * 8 + t) = 0) → dm t = -1) ∧ (∀ y, y < 24 → ¬ a_mark (y * 8 + t) = 0 → (∀ z, z < y → a_mark (z * 8 + t) = 0) → dm t = nI y)) → wY_sieges_157 post f_n f_p f_q f_solved f_token f_awaited (d + 1) (nI s) a_ownerOf a_moveMask a_assumption a_guarantee dm a_mark := by
  intro d
  induction d with
  | zero =>
    intro s dm hs h1
    obtain rfl : s = n := by omega
    exact br_t (by rw [hfn]; exact nI_le (by omega) (by omega)) (h dm h1)
  | succ d ih =>
    intro s dm hs h1
    have cls : (nI s).toNatClampNeg = s := nI_clamp (by omega)
    refine br_f (by rw [hfn]; exact nI_ge (by omega) (by omega)) ⟨vp_in_nI (by omega) (by omega), nm_r (e' := upd dm s (-1)) (by rw [cls]) ⟨24 + 1, ?_⟩⟩
    refine yy_s175 (d0 := upd dm s (-1)) (by omega) (fun dm' h2 h3 h4 => ih (s + 1) dm' (by omega) fun t ht => ?_) 24 23 _ (by decide) (by omega) (fun _ _ => rfl) (fun _ => pk_us) (fun z hz hz2 => by omega)
    by_cases e : t = s
    · subst e; exact ⟨h3, h4⟩
    · rw [h2 t e, pk_un e]; exact h1 t (by omega)
theorem yy_s157f {post : SY → Prop} (g : gx_g n EN E f_n a_ownerOf a_moveMask) (ha : gx_s n p A f_p a_assumption) (hg : gx_s n q G f_q a_guarantee) (K : yy_K n p q EN E A G a_mark) (hA : yy_All n p q EN E A G p a_mark) (h : ∀ mk dm : Nat → Int32, gy_sol n p q EN E A G dm → post (f_n, f_p, f_q, f_solved, f_token, f_awaited, a_ownerOf, a_moveMask, a_assumption, a_guarantee, dm, mk)) : ∃ n157 : Nat, wY_sieges_157 post f_n f_p f_q f_solved f_token f_awaited n157 0 a_ownerOf a_moveMask a_assumption a_guarantee a_doomOf a_mark := by
  have hn8 : n ≤ 8 := g.2.2.1
  have hp1 : 0 < p := ha.2.1
  have hq1 : 0 < q := hg.2.1
  have hnq := gm_nq hn8 hg.2.2.1
  refine ⟨n + 1, yy_s157 g.1 hn8 (fun dm h1 => h a_mark dm ⟨fun t ht hL => ?_, fun t ht z hz h2 h3 => ?_⟩) n 0 a_doomOf (by omega) (fun t ht => by omega)⟩
  · refine (h1 t ht).1 fun y hy => Classical.byContradiction fun h2 => hL ?_
    have h3 := (yy_K_L hp1 hn8 K hA hy ht).1 h2
    rcases Nat.lt_or_ge (y + 1) (n * q) with h4 | h4
    · exact gm_L_le gm_pre_mono hp1 (n * q) (y + 1) (by omega) t ht h3
    · exact gm_L_st gm_pre_mono hp1 hq1 (y + 1) h4 t ht h3
  · refine (h1 t ht).2 z (by omega) ((yy_K_L hp1 hn8 K hA (by omega) ht).2 h2) fun w hw => Classical.byContradiction fun h4 => h3 ?_
    exact gm_L_le gm_pre_mono hp1 z (w + 1) (by omega) t ht ((yy_K_L hp1 hn8 K hA (by omega) ht).1 h4)
/-- the strikes of one assumption; m1: the marks behind its reach -/
theorem yy_s95 {post : SY → Prop} {J64 J79 : Int32 → Int32 → Int32 → Int32 → Int32 → Int32 → Int32 → Int32 → (Nat → Int32) → (Nat → Int32) → (Nat → Int32) → (Nat → Int32) → (Nat → Int32) → (Nat → Int32) → Prop} {x2 : Int32} {i rd : Nat} {m1 : Nat → Int32} {xi : Int32} (hJ : ∀ (x1 : Int32) (mk : Nat → Int32), (∀ j, j < 192 → (¬ mk j = 0 ↔ (¬ m1 j = 0 ∧ ¬ m1 (192 + j) = 0))) → (x1 = 0 ∨ x1 = 1) → (x1 = 0 → xi = 0 ∧ (∀ j, j < 192 → mk j = m1 j)) → rd + yy_c1 mk ≤ 192 → (x1 = 1 → rd + 1 + yy_c1 mk ≤ 192) → J79 x1 (nI (i + 1)) f_n f_p f_q f_solved f_token f_awaited a_ownerOf a_moveMask a_assumption a_guarantee a_doomOf mk) : ∀ d k x1, ∀ mk : Nat → Int32, k + d = 192 → (∀ j, j < 192 → mk (192 + j) = m1 (192 + j)) → (∀ j, k ≤ j → j < 192 → mk j = m1 j) → (∀ j, j < k → (¬ mk j = 0 ↔ (¬ m1 j = 0 ∧ ¬ m1 (192 + j) = 0))) → (x1 = 0 ∨ x1 = 1) → (x1 = 0 → xi = 0 ∧ (∀ j, j < 192 → mk j = m1 j)) → rd + yy_c1 mk ≤ 192 → (x1 = 1 → rd + 1 + yy_c1 mk ≤ 192) → wY_sieges_95 post J64 J79 x2 (nI i) f_n f_p f_q f_solved f_token f_awaited (d + 1) x1 (nI k) a_ownerOf a_moveMask a_assumption a_guarantee a_doomOf mk := by
  intro d
  induction d with
  | zero =>
    intro k x1 mk hk _ _ h3 h4 h5 h6 h7
    obtain rfl : k = 192 := by omega
    exact br_t (nI_le (a := 192) (by omega) (by omega)) (nm_r (nI_1 i) (hJ x1 mk h3 h4 h5 h6 h7))
  | succ d ih =>
    intro k x1 mk hk h1 h2 h3 h4 h5 h6 h7
    have hk' : k < 192 := by omega
    have cl : (nI k).toNatClampNeg = k := nI_clamp (by omega)
    have e1 := h2 k (by omega) hk'
    have e2 := h1 k hk'
    refine br_f (nI_ge (b := 192) hk' (by omega)) ⟨vp_in_nI (by omega) (by omega), ?_⟩
    rw [cl]
    refine br_c (fun h8 => nm_r (nI_1 k) (ih (k + 1) x1 mk (by omega) h1 (fun j hj => h2 j (by omega)) (fun j hj => ?_) h4 h5 h6 h7)) (fun h8 => ⟨yy_192i hk', ?_⟩)
    · by_cases e : j = k
      · subst e
        rw [e1] at h8
        rw [e1]
        exact ⟨fun h => absurd h8 h, fun h => absurd h8 h.1⟩
      · exact h3 j (by omega)
    · rw [yy_192c hk']
      refine br_c (fun h9 => ⟨vp_in_nI (by omega) (by omega), nm_r (e' := upd mk k 0) rfl ?_⟩) (fun h9 => nm_r (nI_1 k) (ih (k + 1) x1 mk (by omega) h1 (fun j hj => h2 j (by omega)) (fun j hj => ?_) h4 h5 h6 h7))
      · have h10 := yy_c1_cut hk' h8
        refine nm_r (nI_1 k) (ih (k + 1) 1 _ (by omega) (fun j hj => ?_) (fun j hj hj2 => ?_) (fun j hj => ?_) (Or.inr rfl) (fun h => absurd h ms_ne10) (by omega) (fun _ => by omega))
        · rw [pk_un (by omega)]; exact h1 j hj
        · rw [pk_un (by omega)]; exact h2 j (by omega) hj2
        · by_cases e : j = k
          · subst e
            rw [pk_us]
            refine ⟨fun h => absurd rfl h, fun h => absurd ?_ h.2⟩
            rw [← e2]; exact h9
          · rw [pk_un e]; exact h3 j (by omega)
      · by_cases e : j = k
        · subst e
          rw [e1, ← e2]
          rw [e1] at h8
          exact ⟨fun h => ⟨h, h9⟩, fun h => h.1⟩
        · exact h3 j (by omega)
theorem yy_s79 {post : SY → Prop} {J64 : Int32 → Int32 → Int32 → Int32 → Int32 → Int32 → Int32 → Int32 → (Nat → Int32) → (Nat → Int32) → (Nat → Int32) → (Nat → Int32) → (Nat → Int32) → (Nat → Int32) → Prop} {rd : Nat} (g : gx_g n EN E f_n a_ownerOf a_moveMask) (ha : gx_s n p A f_p a_assumption) (hg : gx_s n q G f_q a_guarantee) (hJ : ∀ (x1 : Int32) (mk : Nat → Int32), yy_K n p q EN E A G mk → (x1 = 0 ∨ x1 = 1) → (x1 = 0 → yy_All n p q EN E A G p mk) → (x1 = 1 → rd + 1 + yy_c1 mk ≤ 192) → J64 x1 (nI (rd + 1)) f_n f_p f_q f_solved f_token f_awaited a_ownerOf a_moveMask a_assumption a_guarantee a_doomOf mk) : ∀ d i x1, ∀ mk : Nat → Int32, i + d = p → yy_K n p q EN E A G mk → (x1 = 0 ∨ x1 = 1) → (x1 = 0 → yy_All n p q EN E A G i mk) → rd + yy_c1 mk ≤ 192 → (x1 = 1 → rd + 1 + yy_c1 mk ≤ 192) → wY_sieges_79 post J64 (nI rd) (d + 1) x1 (nI i) f_n f_p f_q f_solved f_token f_awaited a_ownerOf a_moveMask a_assumption a_guarantee a_doomOf mk := by
  have hn8 : n ≤ 8 := g.2.2.1
  have hfp : f_p = nI p := ha.1
  have hp1 : 0 < p := ha.2.1
  have hp3 : p ≤ 3 := ha.2.2.1
  intro d
  induction d with
  | zero =>
    intro i x1 mk hi K h4 h5 h6 h7
    obtain rfl : i = p := by omega
    exact br_t (by rw [hfp]; exact nI_le (by omega) (by omega)) (nm_r (nI_1 rd) (hJ x1 mk K h4 h5 h7))
  | succ d ih =>
    intro i x1 mk hi K h4 h5 h6 h7
    refine br_f (by rw [hfp]; exact nI_ge (by omega) (by omega)) (yy_reach g ha hg (by omega) K.2 fun m1 e1 e2 => ?_)
    have hsub := gm_Y_sub (M := fun k => ¬ mk k = 0) (q := q) (A := A) (G := G) (n := n) (P := (gm_pre n EN E)) gm_pre_mono hp1 hn8 (gm_pre_0 g.2.2.2.2.2) (i := i) (by omega) K.1
    refine ⟨192 + 1, yy_s95 (m1 := m1) (xi := x1) (rd := rd) (fun x1' mk' h1 h2 h3 h8 h9 => ?_) 192 0 x1 m1 (by omega) (fun _ _ => rfl) (fun _ _ _ => rfl) (fun j hj => by omega) h4 (fun h => ⟨h, fun _ _ => rfl⟩) (by rw [yy_c1_cg e1]; exact h6) (fun h => by rw [yy_c1_cg e1]; exact h7 h)⟩
    have hK' : ∀ j, j < 192 → (¬ mk' j = 0 ↔ (¬ mk j = 0 ∧ gm_YR q (gm_pre n EN E) (A i) G (fun k => ¬ mk k = 0) j)) := by
      intro j hj
      rw [h1 j hj, e1 j hj, e2 j hj]
    refine ih (i + 1) x1' mk' (by omega) ⟨fun y c hy hc hL => (hK' _ (by omega)).2 ⟨K.1 y c hy hc hL, hsub y c hy hc hL⟩, fun j hj h => K.2 j hj ((hK' j hj).1 h).1⟩ h2 (fun hx => ?_) h8 h9
    obtain ⟨hx1, heq⟩ := h3 hx
    have heq2 : ∀ k, k < 192 → (¬ mk k = 0 ↔ ¬ mk' k = 0) := by
      intro k hk
      rw [heq k hk, e1 k hk]
    intro i' hi' j hj hm
    refine gm_YR_cg gm_pre_mono hn8 K.2 heq2 ?_
    by_cases e : i' = i
    · subst e
      exact ((hK' j hj).1 hm).2
    · exact h5 hx1 i' (by omega) j hj ((heq2 j hj).2 hm)
theorem yy_s64 {post : SY → Prop} (g : gx_g n EN E f_n a_ownerOf a_moveMask) (ha : gx_s n p A f_p a_assumption) (hg : gx_s n q G f_q a_guarantee) (h : ∀ mk dm : Nat → Int32, gy_sol n p q EN E A G dm → post (f_n, f_p, f_q, f_solved, f_token, f_awaited, a_ownerOf, a_moveMask, a_assumption, a_guarantee, dm, mk)) : ∀ d rd x1, ∀ mk : Nat → Int32, rd + d = 193 → yy_K n p q EN E A G mk → (x1 = 0 ∨ x1 = 1) → (x1 = 0 → yy_All n p q EN E A G p mk) → (x1 = 1 → rd + yy_c1 mk ≤ 192) → wY_sieges_64 post (d + 1) x1 (nI rd) f_n f_p f_q f_solved f_token f_awaited a_ownerOf a_moveMask a_assumption a_guarantee a_doomOf mk := by
  intro d
  induction d with
  | zero =>
    intro rd x1 mk hrd K h4 h5 h6
    rcases h4 with h4 | h4
    · exact br_t h4 (yy_s157f g ha hg K (h5 h4) h)
    · have h7 := h6 h4
      omega
  | succ d ih =>
    intro rd x1 mk hrd K h4 h5 h6
    rcases h4 with h4 | h4
    · exact br_t h4 (yy_s157f g ha hg K (h5 h4) h)
    · subst h4
      refine br_f ms_ne10 (br_f (nI_nlt (b := rd) (a := 192) (by omega) (by omega)) ⟨p + 1, ?_⟩)
      exact yy_s79 g ha hg (fun x1 mk K h4 h5 h6 => ih (rd + 1) x1 mk (by omega) K h4 h5 h6) p 0 0 mk (by omega) K (Or.inl rfl) (fun _ i' hi' => by omega) (h6 rfl) (fun h => absurd h.symm ms_ne10)
theorem yy_s2 {post : SY → Prop} (g : gx_g n EN E f_n a_ownerOf a_moveMask) (ha : gx_s n p A f_p a_assumption) (hg : gx_s n q G f_q a_guarantee) (h : ∀ mk dm : Nat → Int32, gy_sol n p q EN E A G dm → post (f_n, f_p, f_q, f_solved, f_token, f_awaited, a_ownerOf, a_moveMask, a_assumption, a_guarantee, dm, mk)) : ∀ d k, ∀ mk : Nat → Int32, k + d = 192 → (∀ j, j < k → (¬ mk j = 0 ↔ (j % 8 < n ∧ ¬ (j / 8 = 0 ∧ G 0 (j % 8))))) → wY_sieges_2 post f_n f_p f_q f_solved f_token f_awaited (d + 1) (nI k) a_ownerOf a_moveMask a_assumption a_guarantee a_doomOf mk := by
  have hn8 : n ≤ 8 := g.2.2.1
  have hfn : f_n = nI n := g.1
  intro d
  induction d with
  | zero =>
    intro k mk hk h1
    obtain rfl : k = 192 := by omega
    refine br_t (nI_le (a := 192) (by omega) (by omega)) ⟨193 + 1, yy_s64 g ha hg h 193 0 1 mk (by omega) ⟨fun y c hy hc hL => ?_, fun j hj h2 => ((h1 j hj).1 h2).1⟩ (Or.inr rfl) (fun h => absurd h ms_ne10) (fun _ => by have := yy_c1_le mk; omega)⟩
    refine (h1 (y * 8 + c) (by omega)).2 ⟨by omega, fun h2 => ?_⟩
    obtain ⟨h3, h4⟩ := h2
    obtain rfl : y = 0 := by omega
    rw [show (0 * 8 + c) % 8 = c from by omega] at h4
    rcases gm_H_unf gm_pre_mono ha.2.1 hc hL with ⟨_, h5⟩ | ⟨h5, _⟩
    · exact gm_pre_0 g.2.2.2.2.2 c hc h5
    · rw [Nat.zero_mod] at h5
      exact h5 h4
  | succ d ih =>
    intro k mk hk h1
    have hk' : k < 192 := by omega
    have cl : (nI k).toNatClampNeg = k := nI_clamp (by omega)
    have put : ∀ v : Int32, (¬ v = 0 ↔ (k % 8 < n ∧ ¬ (k / 8 = 0 ∧ G 0 (k % 8)))) → wY_sieges_2 post f_n f_p f_q f_solved f_token f_awaited (d + 1) (nI (k + 1)) a_ownerOf a_moveMask a_assumption a_guarantee a_doomOf (upd mk k v) := by
      intro v hv
      refine ih (k + 1) _ (by omega) fun j hj => ?_
      by_cases e : j = k
      · subst e; rw [pk_us]; exact hv
      · rw [pk_un e]; exact h1 j (by omega)
    have z0 : ¬ ¬ (0 : Int32) = 0 := fun h => h rfl
    have hin : vp_in (nI k) 384 := vp_in_nI (by omega) (by omega)
    refine br_f (nI_ge (b := 192) hk' (by omega)) ⟨yy_8, nm_r (yy_rem8 hk') ?_⟩
    by_cases hc : k % 8 < n
    · refine br_f (by rw [hfn]; exact nI_ge (by omega) (by omega)) ⟨yy_8, ?_⟩
      rw [yy_div8 hk']
      by_cases hz : k / 8 = 0
      · refine br_t (by rw [hz]; rfl) (yy_has_s hn8 hc (hg.2.2.2 0 hg.2.1) (fun hG => br_f ms_ne10 ⟨hin, nm_r (e' := upd mk k 0) (by rw [cl]; rfl) (nm_r (nI_1 k) (put 0 ⟨fun h => absurd h z0, fun h => absurd ⟨hz, hG⟩ h.2⟩))⟩) (fun hG => br_t rfl ⟨hin, nm_r (e' := upd mk k 1) (by rw [cl]; rfl) (nm_r (nI_1 k) (put 1 ⟨fun _ => ⟨hc, fun h => hG h.2⟩, fun _ => ms_ne10⟩))⟩))
      · exact br_f (nI_ne0 (by omega) (by omega)) ⟨hin, nm_r (e' := upd mk k 1) (by rw [cl]; rfl) (nm_r (nI_1 k) (put 1 ⟨fun _ => ⟨hc, fun h => hz h.1⟩, fun _ => ms_ne10⟩))⟩
    · exact br_t (by rw [hfn]; exact nI_le (by omega) (by omega)) ⟨hin, nm_r (e' := upd mk k 0) (by rw [cl]; rfl) (nm_r (nI_1 k) (put 0 ⟨fun h => absurd h z0, fun h => absurd h.1 hc⟩))⟩
theorem yy_sieges {post : SY → Prop} (g : gx_g n EN E f_n a_ownerOf a_moveMask) (ha : gx_s n p A f_p a_assumption) (hg : gx_s n q G f_q a_guarantee) (h : ∀ mk dm : Nat → Int32, gy_sol n p q EN E A G dm → post (f_n, f_p, f_q, f_solved, f_token, f_awaited, a_ownerOf, a_moveMask, a_assumption, a_guarantee, dm, mk)) : wpY_sieges post (f_n, f_p, f_q, f_solved, f_token, f_awaited, a_ownerOf, a_moveMask, a_assumption, a_guarantee, a_doomOf, a_mark) :=
  ⟨192 + 1, yy_s2 g ha hg h 192 0 a_mark (by omega) (fun j hj => by omega)⟩
end
end
section
/-! ===== Y: solve, winner, debt ===== -/
section
variable {n p q : Nat} {EN : Nat → Prop} {E A G : Nat → Nat → Prop}
variable {f_n f_p f_q f_solved f_token f_awaited : Int32}
variable {a_ownerOf a_moveMask a_assumption a_guarantee a_doomOf a_mark : Nat → Int32}
theorem gy_lost {dm : Nat → Int32} (hsol : gy_sol n p q EN E A G dm) {t : Nat} (ht : t < n) (hL : gm_L n p q (gm_pre n EN E) A G (n * q) t) : ∃ z, z < n * q ∧ gm_L n p q (gm_pre n EN E) A G (z + 1) t ∧ ¬ gm_L n p q (gm_pre n EN E) A G z t ∧ dm t = nI z := by
  obtain ⟨z, hz, h1, h2⟩ := gm_first (F := fun y => gm_L n p q (gm_pre n EN E) A G y t) (n * q) (fun h => h) hL
  exact ⟨z, hz, h1, h2, hsol.2 t ht z hz h1 h2⟩
theorem gy_m1 : ¬ (0 : Int32) ≤ -1 := by decide
theorem gy_m1' : (-1 : Int32) < 0 := by decide
theorem gy_pos {dm : Nat → Int32} (hsol : gy_sol n p q EN E A G dm) (hnq : n * q ≤ 24) {t : Nat} (ht : t < n) : (gm_L n p q (gm_pre n EN E) A G (n * q) t ∧ 0 ≤ dm t ∧ ¬ dm t < 0) ∨ (¬ gm_L n p q (gm_pre n EN E) A G (n * q) t ∧ ¬ 0 ≤ dm t ∧ dm t < 0) := by
  by_cases hL : gm_L n p q (gm_pre n EN E) A G (n * q) t
  · obtain ⟨z, hz, _, _, h3⟩ := gy_lost hsol ht hL
    rw [h3]
    exact Or.inl ⟨hL, nI_pos' (by omega), nI_pos (by omega)⟩
  · rw [hsol.1 t ht hL]
    exact Or.inr ⟨hL, gy_m1, gy_m1'⟩
theorem yy_solve25 {post : Int32 → SY → Prop} (hfn : f_n = nI n) (hn : n ≤ 8) (hnq : n * q ≤ 24) (hsol : gy_sol n p q EN E A G a_doomOf) (h : post (nI (gm_cn (fun t => ¬ gm_L n p q (gm_pre n EN E) A G (n * q) t) n)) (f_n, f_p, f_q, f_solved, f_token, f_awaited, a_ownerOf, a_moveMask, a_assumption, a_guarantee, a_doomOf, a_mark)) : ∀ d s, s + d = n → wY_solve_25 post f_n f_p f_q f_solved f_token f_awaited a_ownerOf a_moveMask a_assumption a_guarantee a_doomOf a_mark (d + 1) (nI (gm_cn (fun t => ¬ gm_L n p q (gm_pre n EN E) A G (n * q) t) s)) (nI s) := by
  intro d
  induction d with
  | zero =>
    intro s hs
    obtain rfl : s = n := by omega
    exact br_t (by rw [hfn]; exact nI_le (by omega) (by omega)) h
  | succ d ih =>
    intro s hs
    have hsn : s < n := by omega
    have cl : (nI s).toNatClampNeg = s := nI_clamp (by omega)
    have h2 := ih (s + 1) (by omega)
    rw [gm_cn_s] at h2
    refine br_f (by rw [hfn]; exact nI_ge (by omega) (by omega)) ⟨vp_in_nI (by omega) (by omega), ?_⟩
    rw [cl]
    rcases gy_pos hsol hnq hsn with ⟨hL, h3, _⟩ | ⟨hL, h3, _⟩
    · rw [gm_b0 (fun h => h hL), Nat.add_zero] at h2
      exact br_t h3 (nm_r (nI_1 s) h2)
    · rw [gm_b1 hL] at h2
      exact br_f h3 (nm_r (nI_1 _) (nm_r (nI_1 s) h2))
theorem yy_solve0 {post : Int32 → SY → Prop} (g : gx_g n EN E f_n a_ownerOf a_moveMask) (ha : gx_s n p A f_p a_assumption) (hg : gx_s n q G f_q a_guarantee) (h : ∀ mk dm : Nat → Int32, gy_sol n p q EN E A G dm → post (nI (gm_cn (fun t => ¬ gm_L n p q (gm_pre n EN E) A G (n * q) t) n)) (f_n, f_p, f_q, 1, -1, f_awaited, a_ownerOf, a_moveMask, a_assumption, a_guarantee, dm, mk)) (hs : f_solved = 0) : wpY_solve post (f_n, f_p, f_q, f_solved, f_token, f_awaited, a_ownerOf, a_moveMask, a_assumption, a_guarantee, a_doomOf, a_mark) := by
  have hn8 : n ≤ 8 := g.2.2.1
  have hnq := gm_nq hn8 hg.2.2.1
  exact br_t hs (yy_sieges g ha hg fun mk dm hsol => ⟨n + 1, yy_solve25 g.1 hn8 hnq hsol (h mk dm hsol) n 0 (by omega)⟩)
theorem yy_solve1 {post : Int32 → SY → Prop} (hfn : f_n = nI n) (hn : n ≤ 8) (hnq : n * q ≤ 24) (hsol : gy_sol n p q EN E A G a_doomOf) (h : post (nI (gm_cn (fun t => ¬ gm_L n p q (gm_pre n EN E) A G (n * q) t) n)) (f_n, f_p, f_q, f_solved, f_token, f_awaited, a_ownerOf, a_moveMask, a_assumption, a_guarantee, a_doomOf, a_mark)) (hs : ¬ f_solved = 0) : wpY_solve post (f_n, f_p, f_q, f_solved, f_token, f_awaited, a_ownerOf, a_moveMask, a_assumption, a_guarantee, a_doomOf, a_mark) :=
  br_f hs ⟨n + 1, yy_solve25 hfn hn hnq hsol h n 0 (by omega)⟩
theorem yy_winner {post : Int32 → Prop} {s : Nat} (hfn : f_n = nI n) (hn : n ≤ 8) (hnq : n * q ≤ 24) (hsol : gy_sol n p q EN E A G a_doomOf) (hs : ¬ f_solved = 0) (ht : s < n) (h0 : gm_L n p q (gm_pre n EN E) A G (n * q) s → post 0) (h1 : ¬ gm_L n p q (gm_pre n EN E) A G (n * q) s → post 1) : wpY_winner post (f_n, f_p, f_q, f_solved, f_token, f_awaited, a_ownerOf, a_moveMask, a_assumption, a_guarantee, a_doomOf, a_mark) (nI s) := by
  have cl : (nI s).toNatClampNeg = s := nI_clamp (by omega)
  refine br_f (nI_pos (by omega)) (br_t (by rw [hfn]; exact nI_lt ht (by omega)) (br_f hs ⟨vp_in_nI (by omega) (by omega), ?_⟩))
  rw [cl]
  rcases gy_pos hsol hnq ht with ⟨hL, h3, _⟩ | ⟨hL, h3, _⟩
  · exact br_t h3 (h0 hL)
  · exact br_f h3 (h1 hL)
/-- one position of a chase pass, behind the goal's test -/
theorem yy_d166 {post : Int32 → SY → Prop} {J77 J94 : Int32 → Int32 → (Nat → Int32) → (Nat → Int32) → (Nat → Int32) → (Nat → Int32) → (Nat → Int32) → (Nat → Int32) → Prop} {x1 x2 x3 x4 : Int32} {k : Nat} (g : gx_g n EN E f_n a_ownerOf a_moveMask) (ha : gx_s n p A f_p a_assumption) (hk : k < 192) (hc : k % 8 < n) (hyes : gm_FS p (gm_pre n EN E) A (fun k => ¬ a_mark k = 0) k → J94 1 (nI (k + 1)) a_ownerOf a_moveMask a_assumption a_guarantee a_doomOf (upd a_mark k 1)) (hno : ¬ gm_FS p (gm_pre n EN E) A (fun k => ¬ a_mark k = 0) k → J94 x3 (nI (k + 1)) a_ownerOf a_moveMask a_assumption a_guarantee a_doomOf a_mark) : wY_debt_166 post J77 J94 x1 x2 x3 x4 (nI k) (nI (k % 8)) (nI (k / 8)) f_n f_p f_q f_solved f_token f_awaited a_ownerOf a_moveMask a_assumption a_guarantee a_doomOf a_mark := by
  have hn8 : n ≤ 8 := g.2.2.1
  obtain ⟨hfp, hp1, hp3, hA⟩ := ha
  have cl : (nI k).toNatClampNeg = k := nI_clamp (by omega)
  have hrem : nI (k / 8) - nI (k / 8) / f_p * f_p = nI (k / 8 % p) := by rw [hfp]; exact pk_rem (by omega) hp1 (by omega)
  have hm := Nat.mod_lt (k / 8) hp1
  have h237y : gm_FS p (gm_pre n EN E) A (fun k => ¬ a_mark k = 0) k → wY_debt_237 post J77 J94 x1 x2 x3 x4 (nI k) 1 f_n f_p f_q f_solved f_token f_awaited a_ownerOf a_moveMask a_assumption a_guarantee a_doomOf a_mark := fun h => br_f ms_ne10 ⟨vp_in_nI (by omega) (by omega), nm_r (e' := upd a_mark k 1) (by rw [cl]; rfl) (nm_r (nI_1 k) (hyes h))⟩
  have h237n : ¬ gm_FS p (gm_pre n EN E) A (fun k => ¬ a_mark k = 0) k → wY_debt_237 post J77 J94 x1 x2 x3 x4 (nI k) 0 f_n f_p f_q f_solved f_token f_awaited a_ownerOf a_moveMask a_assumption a_guarantee a_doomOf a_mark := fun h => br_t rfl (nm_r (nI_1 k) (hno h))
  have h222 : ∀ (r : Nat) (z0 : Int32), z0 = nI r → gm_rest p A k r → ¬ (A (k / 8 % p) (k % 8) ∧ k / 8 = 0) → wY_debt_222 post J77 J94 x1 x2 x3 x4 (nI k) (nI (k % 8)) z0 f_n f_p f_q f_solved f_token f_awaited a_ownerOf a_moveMask a_assumption a_guarantee a_doomOf a_mark := by
    intro r z0 hz hr hn0
    subst hz
    have hr' : r < 24 := by
      rcases hr with ⟨_, hr⟩ | ⟨_, hr⟩ <;> omega
    refine yy_ef (r * 8) (k % 8) g (yy_x8 r) rfl hc (by omega) (fun h => h237y (Or.inr ⟨r, hr, h⟩)) (fun h => h237n fun hF => ?_)
    rcases hF with hF | ⟨r', hr2, hF⟩
    · exact hn0 hF
    · have e : r' = r := by
        rcases hr with ⟨h1, hr⟩ | ⟨h1, hr⟩ <;> rcases hr2 with ⟨h2, hr2⟩ | ⟨h2, hr2⟩
        · omega
        · exact absurd h1 h2
        · exact absurd h2 h1
        · omega
      subst e
      exact h hF
  refine ⟨by rw [hfp]; exact nI_ne0 hp1 (by omega), ?_⟩
  rw [hrem]
  refine ⟨vp_in_nI (by omega) (by omega), ?_⟩
  rw [nI_clamp (show k / 8 % p < 2 ^ 31 by omega)]
  refine yy_has_s hn8 hc (hA (k / 8 % p) hm) (fun hAA => br_f ms_ne10 ?_) (fun hAA => br_t rfl ?_)
  · rcases Nat.eq_zero_or_pos (k / 8) with h3 | h3
    · refine br_t (by rw [h3]; rfl) (br_f ms_ne10 (h237y (Or.inl ⟨hAA, h3⟩)))
    · obtain ⟨r, hr⟩ : ∃ r, k / 8 = r + 1 := ⟨k / 8 - 1, by omega⟩
      refine br_f (nI_ne0 h3 (by omega)) (br_t rfl (br_f ms_ne10 (h222 r _ (by rw [hr]; exact nI_pred r) (Or.inl ⟨hAA, hr⟩) fun h => by omega)))
  · exact br_t rfl (br_t rfl (h222 (k / 8) _ rfl (Or.inr ⟨hAA, rfl⟩) fun h => hAA h.1))
theorem yy_d94s {post : Int32 → SY → Prop} {J77 : Int32 → Int32 → (Nat → Int32) → (Nat → Int32) → (Nat → Int32) → (Nat → Int32) → (Nat → Int32) → (Nat → Int32) → Prop} {x1 x3 x4 : Int32} {j k m : Nat} (g : gx_g n EN E f_n a_ownerOf a_moveMask) (ha : gx_s n p A f_p a_assumption) (hg : gx_s n q G f_q a_guarantee) (hsol : gy_sol n p q EN E A G a_doomOf) (hj : j < q) (hk : k < 192) (hyes : k % 8 < n → ¬ gm_gl n p q (gm_pre n EN E) A G j (k % 8) → a_mark k = 0 → gm_FS p (gm_pre n EN E) A (fun k => ¬ a_mark k = 0) k → wY_debt_94 post J77 x1 (nI j) x4 f_n f_p f_q f_solved f_token f_awaited m 1 (nI (k + 1)) a_ownerOf a_moveMask a_assumption a_guarantee a_doomOf (upd a_mark k 1)) (hno : (k % 8 < n → ¬ gm_gl n p q (gm_pre n EN E) A G j (k % 8) → a_mark k = 0 → ¬ gm_FS p (gm_pre n EN E) A (fun k => ¬ a_mark k = 0) k) → wY_debt_94 post J77 x1 (nI j) x4 f_n f_p f_q f_solved f_token f_awaited m x3 (nI (k + 1)) a_ownerOf a_moveMask a_assumption a_guarantee a_doomOf a_mark) : wY_debt_94 post J77 x1 (nI j) x4 f_n f_p f_q f_solved f_token f_awaited (m + 1) x3 (nI k) a_ownerOf a_moveMask a_assumption a_guarantee a_doomOf a_mark := by
  have hn8 : n ≤ 8 := g.2.2.1
  have hfn : f_n = nI n := g.1
  obtain ⟨hfq, hq1, hq3, hG⟩ := hg
  have hnq := gm_nq hn8 hq3
  have cl : (nI k).toNatClampNeg = k := nI_clamp (by omega)
  have clc : (nI (k % 8)).toNatClampNeg = k % 8 := nI_clamp (by omega)
  have clj : (nI j).toNatClampNeg = j := nI_clamp (by omega)
  refine br_f (nI_ge (b := 192) hk (by omega)) ⟨yy_8, nm_r (yy_rem8 hk) ⟨yy_8, nm_r (yy_div8 hk) ?_⟩⟩
  by_cases hc : k % 8 < n
  · refine br_f (by rw [hfn]; exact nI_ge hc (by omega)) ⟨vp_in_nI (by omega) (by omega), ?_⟩
    rw [cl]
    refine br_c (fun h0 => ⟨vp_in_nI (by omega) (by omega), ?_⟩) (fun h0 => nm_r (nI_1 k) (hno fun _ _ h => absurd h h0))
    rw [clc]
    have h166 : ¬ gm_gl n p q (gm_pre n EN E) A G j (k % 8) → wY_debt_166 post J77 (wY_debt_94 post J77 x1 (nI j) x4 f_n f_p f_q f_solved f_token f_awaited m) x1 (nI j) x3 x4 (nI k) (nI (k % 8)) (nI (k / 8)) f_n f_p f_q f_solved f_token f_awaited a_ownerOf a_moveMask a_assumption a_guarantee a_doomOf a_mark := fun hgl => yy_d166 g ha hk hc (fun hF => hyes hc hgl h0 hF) (fun hF => hno fun _ _ _ => hF)
    rcases gy_pos hsol hnq hc with ⟨hL, h3, _⟩ | ⟨hL, h3, _⟩
    · exact br_t h3 (h166 fun h => h.1 hL)
    · refine br_f h3 ⟨vp_in_nI (by omega) (by omega), ?_⟩
      rw [clj]
      exact yy_has_s hn8 hc (hG j hj) (fun hh => br_f ms_ne10 (nm_r (nI_1 k) (hno fun _ h => absurd ⟨hL, hh⟩ h))) (fun hh => br_t rfl (h166 fun h => hh h.2))
  · exact br_t (by rw [hfn]; exact nI_le (by omega) (by omega)) (nm_r (nI_1 k) (hno fun h => absurd h hc))
theorem yy_c1_put {mk : Nat → Int32} {k : Nat} (hk : k < 192) (h : mk k = 0) : yy_c1 mk < yy_c1 (upd mk k 1) := by
  refine gm_cn_lt 192 (fun t ht h1 => ?_) k hk ?_ (fun h1 => h1 h)
  · have e : t ≠ k := fun e => h1 (by rw [e]; exact h)
    rw [pk_un e]; exact h1
  · rw [pk_us]; exact ms_ne10
theorem yy_d94 {post : Int32 → SY → Prop} {J77 : Int32 → Int32 → (Nat → Int32) → (Nat → Int32) → (Nat → Int32) → (Nat → Int32) → (Nat → Int32) → (Nat → Int32) → Prop} {x1 : Int32} {j ps : Nat} (g : gx_g n EN E f_n a_ownerOf a_moveMask) (ha : gx_s n p A f_p a_assumption) (hg : gx_s n q G f_q a_guarantee) (hsol : gy_sol n p q EN E A G a_doomOf) (hj : j < q) (hJ : ∀ (x3 : Int32) (mk : Nat → Int32), (∀ i, i < 192 → ¬ mk i = 0 → gm_YF n p (gm_pre n EN E) A (gm_gl n p q (gm_pre n EN E) A G j) i) → (x3 = 0 ∨ x3 = 1) → (x3 = 0 → ∀ i, i < 192 → i % 8 < n → ¬ gm_gl n p q (gm_pre n EN E) A G j (i % 8) → mk i = 0 → ¬ gm_FS p (gm_pre n EN E) A (fun k => ¬ mk k = 0) i) → (x3 = 1 → ps + 1 ≤ yy_c1 mk) → J77 x3 (nI (ps + 1)) a_ownerOf a_moveMask a_assumption a_guarantee a_doomOf mk) : ∀ d k x3, ∀ mk : Nat → Int32, k + d = 192 → (∀ i, i < 192 → ¬ mk i = 0 → gm_YF n p (gm_pre n EN E) A (gm_gl n p q (gm_pre n EN E) A G j) i) → (x3 = 0 ∨ x3 = 1) → (x3 = 0 → ∀ i, i < k → i % 8 < n → ¬ gm_gl n p q (gm_pre n EN E) A G j (i % 8) → mk i = 0 → ¬ gm_FS p (gm_pre n EN E) A (fun k => ¬ mk k = 0) i) → ps ≤ yy_c1 mk → (x3 = 1 → ps + 1 ≤ yy_c1 mk) → wY_debt_94 post J77 x1 (nI j) (nI ps) f_n f_p f_q f_solved f_token f_awaited (d + 1) x3 (nI k) a_ownerOf a_moveMask a_assumption a_guarantee a_doomOf mk := by
  intro d
  induction d with
  | zero =>
    intro k x3 mk hk I h2 h0 hc h1
    obtain rfl : k = 192 := by omega
    exact br_t (nI_le (a := 192) (by omega) (by omega)) (nm_r (nI_1 ps) (hJ x3 mk I h2 h0 h1))
  | succ d ih =>
    intro k x3 mk hk I h2 h0 hc h1
    have hk' : k < 192 := by omega
    refine yy_d94s g ha hg hsol hj hk' (fun h3 h4 h5 hF => ?_) (fun hF => ?_)
    · have h6 := yy_c1_put hk' h5
      refine ih (k + 1) 1 _ (by omega) (fun i hi h7 => ?_) (Or.inr rfl) (fun h => absurd h ms_ne10) (by omega) (fun _ => by omega)
      by_cases e : i = k
      · subst e
        refine gm_YF_fold gm_pre_mono hi h3 h4 ?_
        rcases hF with hF | ⟨r, hr, hF⟩
        · exact Or.inl hF
        · have hr' : r < 24 := by
            rcases hr with ⟨_, hr⟩ | ⟨_, hr⟩ <;> omega
          have hn8 : n ≤ 8 := g.2.2.1
          exact Or.inr ⟨r, hr, gm_pre_mono _ _ (fun t ht hh => I _ (by omega) hh) _ h3 hF⟩
      · rw [pk_un e] at h7
        exact I i hi h7
    · refine ih (k + 1) x3 mk (by omega) I h2 (fun hx i hi => ?_) hc h1
      by_cases e : i = k
      · subst e; exact hF
      · exact h0 hx i (by omega)
theorem yy_d267 {post : Int32 → SY → Prop} {j s : Nat} (hn : n ≤ 8) (hp : 0 < p) (hp3 : p ≤ 3) (hE : ∀ c, c < n → ∃ t, t < n ∧ E c t) (hs : s < n) (hj : j < q) (hW : ¬ gm_L n p q (gm_pre n EN E) A G (n * q) s) (hmk : ∀ i, i < 192 → (¬ a_mark i = 0 ↔ gm_YF n p (gm_pre n EN E) A (gm_gl n p q (gm_pre n EN E) A G j) i)) (h : ∀ z, z < n * p → gm_D n p (gm_pre n EN E) A (gm_gl n p q (gm_pre n EN E) A G j) (z + 1) s → ¬ gm_D n p (gm_pre n EN E) A (gm_gl n p q (gm_pre n EN E) A G j) z s → post (nI z) (f_n, f_p, f_q, f_solved, f_token, f_awaited, a_ownerOf, a_moveMask, a_assumption, a_guarantee, a_doomOf, a_mark)) : ∀ d x, x + d = 24 → ¬ gm_D n p (gm_pre n EN E) A (gm_gl n p q (gm_pre n EN E) A G j) x s → wY_debt_267 post (nI s) f_n f_p f_q f_solved f_token f_awaited a_ownerOf a_moveMask a_assumption a_guarantee a_doomOf a_mark (d + 1) (nI x) := by
  have hnp := gm_nq hn hp3
  have hdet := gm_det gm_pre_mono hp hj hs hW
  intro d
  induction d with
  | zero =>
    intro x hx hD
    obtain rfl : x = 24 := by omega
    exact absurd (gm_D_le gm_pre_mono 24 (n * p) hnp s hs hdet) hD
  | succ d ih =>
    intro x hx hD
    have e8 : nI x * 8 + nI s = nI (x * 8 + s) := by rw [yy_x8, nI_add]
    have cl : (nI x * 8 + nI s).toNatClampNeg = x * 8 + s := by rw [e8]; exact nI_clamp (by omega)
    refine br_f (nI_ge (b := 24) (by omega) (by omega)) ⟨by rw [e8]; exact vp_in_nI (by omega) (by omega), ?_⟩
    rw [cl]
    refine br_c (fun h0 => ?_) (fun h0 => nm_r (nI_1 x) (ih (x + 1) (by omega) ?_))
    · have h1 : gm_D n p (gm_pre n EN E) A (gm_gl n p q (gm_pre n EN E) A G j) (x + 1) s := gm_YF_of gm_pre_mono hn x s (by omega) hs (fun hY => (hmk (x * 8 + s) (by omega)).2 hY h0)
      refine h x ?_ h1 hD
      rcases Nat.lt_or_ge x (n * p) with h2 | h2
      · exact h2
      · exact absurd (gm_D_le gm_pre_mono x (n * p) h2 s hs hdet) hD
    · exact gm_YF_to gm_pre_mono hn (gm_pre_1 hE) hs ((hmk (x * 8 + s) (by omega)).1 h0)
theorem yy_d77 {post : Int32 → SY → Prop} {j s : Nat} (g : gx_g n EN E f_n a_ownerOf a_moveMask) (ha : gx_s n p A f_p a_assumption) (hg : gx_s n q G f_q a_guarantee) (hsol : gy_sol n p q EN E A G a_doomOf) (hs : s < n) (hj : j < q) (hW : ¬ gm_L n p q (gm_pre n EN E) A G (n * q) s) (h : ∀ (mk : Nat → Int32) (z : Nat), z < n * p → gm_D n p (gm_pre n EN E) A (gm_gl n p q (gm_pre n EN E) A G j) (z + 1) s → ¬ gm_D n p (gm_pre n EN E) A (gm_gl n p q (gm_pre n EN E) A G j) z s → post (nI z) (f_n, f_p, f_q, f_solved, f_token, f_awaited, a_ownerOf, a_moveMask, a_assumption, a_guarantee, a_doomOf, mk)) : ∀ d ps x3, ∀ mk : Nat → Int32, ps + d = 193 → (∀ i, i < 192 → ¬ mk i = 0 → gm_YF n p (gm_pre n EN E) A (gm_gl n p q (gm_pre n EN E) A G j) i) → (x3 = 0 ∨ x3 = 1) → (x3 = 0 → ∀ i, i < 192 → i % 8 < n → ¬ gm_gl n p q (gm_pre n EN E) A G j (i % 8) → mk i = 0 → ¬ gm_FS p (gm_pre n EN E) A (fun k => ¬ mk k = 0) i) → (x3 = 1 → ps ≤ yy_c1 mk) → wY_debt_77 post (nI s) (nI j) f_n f_p f_q f_solved f_token f_awaited (d + 1) x3 (nI ps) a_ownerOf a_moveMask a_assumption a_guarantee a_doomOf mk := by
  have hn8 : n ≤ 8 := g.2.2.1
  have fin : ∀ mk : Nat → Int32, (∀ i, i < 192 → ¬ mk i = 0 → gm_YF n p (gm_pre n EN E) A (gm_gl n p q (gm_pre n EN E) A G j) i) → (∀ i, i < 192 → i % 8 < n → ¬ gm_gl n p q (gm_pre n EN E) A G j (i % 8) → mk i = 0 → ¬ gm_FS p (gm_pre n EN E) A (fun k => ¬ mk k = 0) i) → ∃ n267 : Nat, wY_debt_267 post (nI s) f_n f_p f_q f_solved f_token f_awaited a_ownerOf a_moveMask a_assumption a_guarantee a_doomOf mk n267 0 := by
    intro mk I h0
    refine ⟨24 + 1, yy_d267 hn8 ha.2.1 ha.2.2.1 g.2.2.2.2.2 hs hj hW (fun i hi => ⟨I i hi, fun hY => ?_⟩) (fun z => h mk z) 24 0 (by omega) (fun h => h)⟩
    refine hY (fun i => i < 192 → ¬ mk i = 0) (fun k hk hkn hgl hF _ hz => ?_) hi
    refine h0 k hk hkn hgl hz ?_
    rcases hF with hF | ⟨r, hr, hF⟩
    · exact Or.inl hF
    · have hr' : r < 24 := by
        rcases hr with ⟨_, hr⟩ | ⟨_, hr⟩ <;> omega
      exact Or.inr ⟨r, hr, gm_pre_mono _ _ (fun t ht hh => hh (by omega)) _ hkn hF⟩
  intro d
  induction d with
  | zero =>
    intro ps x3 mk hps I h2 h0 h1
    rcases h2 with h2 | h2
    · exact br_t h2 (fin mk I (h0 h2))
    · have h3 := h1 h2
      have h4 := yy_c1_le mk
      omega
  | succ d ih =>
    intro ps x3 mk hps I h2 h0 h1
    rcases h2 with h2 | h2
    · exact br_t h2 (fin mk I (h0 h2))
    · subst h2
      refine br_f ms_ne10 (br_f (nI_nlt (b := ps) (a := 192) (by omega) (by omega)) ⟨192 + 1, ?_⟩)
      exact yy_d94 g ha hg hsol hj (fun x3 mk I h2 h0 h1 => ih (ps + 1) x3 mk (by omega) I h2 h0 h1) 192 0 0 mk (by omega) I (Or.inl rfl) (fun _ i hi => by omega) (h1 rfl) (fun h => absurd h.symm ms_ne10)
theorem yy_d52 {post : Int32 → SY → Prop} {j s : Nat} (g : gx_g n EN E f_n a_ownerOf a_moveMask) (ha : gx_s n p A f_p a_assumption) (hg : gx_s n q G f_q a_guarantee) (hsol : gy_sol n p q EN E A G a_doomOf) (hs : s < n) (hj : j < q) (hW : ¬ gm_L n p q (gm_pre n EN E) A G (n * q) s) (h : ∀ (mk : Nat → Int32) (z : Nat), z < n * p → gm_D n p (gm_pre n EN E) A (gm_gl n p q (gm_pre n EN E) A G j) (z + 1) s → ¬ gm_D n p (gm_pre n EN E) A (gm_gl n p q (gm_pre n EN E) A G j) z s → post (nI z) (f_n, f_p, f_q, f_solved, f_token, f_awaited, a_ownerOf, a_moveMask, a_assumption, a_guarantee, a_doomOf, mk)) : ∀ d k, ∀ mk : Nat → Int32, k + d = 192 → (∀ i, i < k → mk i = 0) → wY_debt_52 post (nI s) (nI j) f_n f_p f_q f_solved f_token f_awaited (d + 1) (nI k) a_ownerOf a_moveMask a_assumption a_guarantee a_doomOf mk := by
  intro d
  induction d with
  | zero =>
    intro k mk hk h1
    obtain rfl : k = 192 := by omega
    refine br_t (nI_le (a := 192) (by omega) (by omega)) ⟨193 + 1, ?_⟩
    exact yy_d77 g ha hg hsol hs hj hW h 193 0 1 mk (by omega) (fun i hi h3 => absurd (h1 i hi) h3) (Or.inr rfl) (fun h => absurd h ms_ne10) (fun _ => Nat.zero_le _)
  | succ d ih =>
    intro k mk hk h1
    have hk' : k < 192 := by omega
    have cl : (nI k).toNatClampNeg = k := nI_clamp (by omega)
    refine br_f (nI_ge (b := 192) hk' (by omega)) ⟨vp_in_nI (by omega) (by omega), nm_r (e' := upd mk k 0) (by rw [cl]; rfl) (nm_r (nI_1 k) (ih (k + 1) _ (by omega) fun i hi => ?_))⟩
    by_cases e : i = k
    · subst e; rw [pk_us]
    · rw [pk_un e]; exact h1 i (by omega)
theorem yy_debt {post : Int32 → SY → Prop} {j s : Nat} (g : gx_g n EN E f_n a_ownerOf a_moveMask) (ha : gx_s n p A f_p a_assumption) (hg : gx_s n q G f_q a_guarantee) (hsol : gy_sol n p q EN E A G a_doomOf) (hv : ¬ f_solved = 0) (hs : s < n) (hj : j < q) (hW : ¬ gm_L n p q (gm_pre n EN E) A G (n * q) s) (h : ∀ (mk : Nat → Int32) (z : Nat), z < n * p → gm_D n p (gm_pre n EN E) A (gm_gl n p q (gm_pre n EN E) A G j) (z + 1) s → ¬ gm_D n p (gm_pre n EN E) A (gm_gl n p q (gm_pre n EN E) A G j) z s → post (nI z) (f_n, f_p, f_q, f_solved, f_token, f_awaited, a_ownerOf, a_moveMask, a_assumption, a_guarantee, a_doomOf, mk)) : wpY_debt post (f_n, f_p, f_q, f_solved, f_token, f_awaited, a_ownerOf, a_moveMask, a_assumption, a_guarantee, a_doomOf, a_mark) (nI s) (nI j) := by
  have hn8 : n ≤ 8 := g.2.2.1
  have hq3 : q ≤ 3 := hg.2.2.1
  have hnq := gm_nq hn8 hq3
  have cl : (nI s).toNatClampNeg = s := nI_clamp (by omega)
  refine br_f (nI_pos (by omega)) (br_t (by rw [g.1]; exact nI_lt hs (by omega)) (br_f (nI_pos (by omega)) (br_t (by rw [hg.1]; exact nI_lt hj (by omega)) (br_f hv ⟨vp_in_nI (by omega) (by omega), ?_⟩))))
  rw [cl]
  rcases gy_pos hsol hnq hs with ⟨hL, _, _⟩ | ⟨_, _, h3⟩
  · exact absurd hL hW
  · exact br_t h3 ⟨192 + 1, yy_d52 g ha hg hsol hs hj hW h 192 0 a_mark (by omega) (fun i hi => by omega)⟩
end
end
section
/-! ===== Y: distance ===== -/
section
variable {n p q : Nat} {EN : Nat → Prop} {E A G : Nat → Nat → Prop}
variable {f_n f_p f_q f_solved f_token f_awaited : Int32}
variable {a_ownerOf a_moveMask a_assumption a_guarantee a_doomOf a_mark : Nat → Int32}
theorem gy_T {dm : Nat → Int32} (hsol : gy_sol n p q EN E A G dm) (hp : 0 < p) (hq : 0 < q) (hnq : n * q ≤ 24) {y c : Nat} (hc : c < n) (hy : y < n * q) : (dm c < 0 ∧ ¬ gm_L n p q (gm_pre n EN E) A G (y + 1) c) ∨ (¬ dm c < 0 ∧ nI y < dm c ∧ ¬ gm_L n p q (gm_pre n EN E) A G (y + 1) c) ∨ (¬ dm c < 0 ∧ ¬ nI y < dm c ∧ gm_L n p q (gm_pre n EN E) A G (y + 1) c) := by
  by_cases hL : gm_L n p q (gm_pre n EN E) A G (n * q) c
  · obtain ⟨z, hz, h1, h2, h3⟩ := gy_lost hsol hc hL
    rw [h3]
    refine Or.inr ?_
    rcases Nat.lt_or_ge y z with h4 | h4
    · exact Or.inl ⟨nI_pos (by omega), nI_lt h4 (by omega), fun h5 => h2 (gm_L_le gm_pre_mono hp z (y + 1) (by omega) c hc h5)⟩
    · exact Or.inr ⟨nI_pos (by omega), nI_nlt (by omega) (by omega), gm_L_le gm_pre_mono hp (y + 1) (z + 1) (by omega) c hc h1⟩
  · rw [hsol.1 c hc hL]
    exact Or.inl ⟨gy_m1', fun h => hL (gm_L_le gm_pre_mono hp (n * q) (y + 1) (by omega) c hc h)⟩
theorem yy_di103 {post : Int32 → SY → Prop} {J52 J63 : Int32 → (Nat → Int32) → (Nat → Int32) → (Nat → Int32) → (Nat → Int32) → (Nat → Int32) → (Nat → Int32) → Prop} {x1 z0 : Int32} {i k c : Nat} {T : Prop} (g : gx_g n EN E f_n a_ownerOf a_moveMask) (ha : gx_s n p A f_p a_assumption) (hi : i < p) (hk : k < 8) (hc : c < n) (hz : (z0 = 0 ∧ ¬ T) ∨ (z0 = 1 ∧ T)) (hyes : T ∧ (A i c ∨ ∃ k', k = k' + 1 ∧ gm_pre n EN E (fun t => ¬ a_mark (k' * 8 + t) = 0) c) → J63 (nI (c + 1)) a_ownerOf a_moveMask a_assumption a_guarantee a_doomOf (upd a_mark (k * 8 + c) 1)) (hno : ¬ (T ∧ (A i c ∨ ∃ k', k = k' + 1 ∧ gm_pre n EN E (fun t => ¬ a_mark (k' * 8 + t) = 0) c)) → J63 (nI (c + 1)) a_ownerOf a_moveMask a_assumption a_guarantee a_doomOf (upd a_mark (k * 8 + c) 0)) : wY_distance_103 post J52 J63 x1 (nI i) (nI k) (nI c) z0 f_n f_p f_q f_solved f_token f_awaited a_ownerOf a_moveMask a_assumption a_guarantee a_doomOf a_mark := by
  have hn8 : n ≤ 8 := g.2.2.1
  have hp3 : p ≤ 3 := ha.2.2.1
  have cli : (nI i).toNatClampNeg = i := nI_clamp (by omega)
  have e8 : nI k * 8 + nI c = nI (k * 8 + c) := by rw [yy_x8, nI_add]
  have cl : (nI k * 8 + nI c).toNatClampNeg = k * 8 + c := by rw [e8]; exact nI_clamp (by omega)
  have hin : vp_in (nI k * 8 + nI c) 384 := by rw [e8]; exact vp_in_nI (by omega) (by omega)
  refine ⟨vp_in_nI (by omega) (by omega), ?_⟩
  rw [cli, cl]
  rcases hz with ⟨hz, hT⟩ | ⟨hz, hT⟩
  · subst hz
    exact yy_has_s hn8 hc (ha.2.2.2 i hi) (fun _ => br_t rfl ⟨hin, nm_r (e' := upd a_mark (k * 8 + c) 0) rfl (nm_r (nI_1 c) (hno fun h => hT h.1))⟩) (fun _ => br_t rfl ⟨hin, nm_r (e' := upd a_mark (k * 8 + c) 0) rfl (nm_r (nI_1 c) (hno fun h => hT h.1))⟩)
  · subst hz
    refine yy_has_s hn8 hc (ha.2.2.2 i hi) (fun hA => br_f ms_ne10 (br_f ms_ne10 ⟨hin, nm_r (e' := upd a_mark (k * 8 + c) 1) rfl (nm_r (nI_1 c) (hyes ⟨hT, Or.inl hA⟩))⟩)) (fun hA => br_f ms_ne10 (br_t rfl ?_))
    cases k with
    | zero =>
      refine br_t (by decide) ⟨hin, nm_r (e' := upd a_mark (0 * 8 + c) 0) rfl (nm_r (nI_1 c) (hno fun h => ?_))⟩
      rcases h.2 with h1 | ⟨k', h1, _⟩
      · exact hA h1
      · omega
    | succ k =>
      refine br_f (nI_nle (by omega) (by omega)) (yy_ef (k * 8) c g (by rw [nI_pred, yy_x8]) rfl hc (by omega) (fun h => br_f ms_ne10 ⟨hin, nm_r (e' := upd a_mark ((k + 1) * 8 + c) 1) rfl (nm_r (nI_1 c) (hyes ⟨hT, Or.inr ⟨k, rfl, h⟩⟩))⟩) (fun h => br_t rfl ⟨hin, nm_r (e' := upd a_mark ((k + 1) * 8 + c) 0) rfl (nm_r (nI_1 c) (hno fun h1 => ?_))⟩))
      rcases h1.2 with h2 | ⟨k', h2, h3⟩
      · exact hA h2
      · obtain rfl : k' = k := by omega
        exact h h3
theorem yy_di63 {post : Int32 → SY → Prop} {J52 : Int32 → (Nat → Int32) → (Nat → Int32) → (Nat → Int32) → (Nat → Int32) → (Nat → Int32) → (Nat → Int32) → Prop} {i k s y : Nat} (g : gx_g n EN E f_n a_ownerOf a_moveMask) (ha : gx_s n p A f_p a_assumption) (hq : 0 < q) (hnq : n * q ≤ 24) (hsol : gy_sol n p q EN E A G a_doomOf) (hi : i < p) (hk : k < n) (hs : s < n) (hy : y < n * q) (hds : a_doomOf s = nI y) (hpost : ∀ mk : Nat → Int32, gm_Q (gm_pre n EN E) (gm_L n p q (gm_pre n EN E) A G (y + 1)) (A i) (k + 1) s → post (nI k) (f_n, f_p, f_q, f_solved, f_token, f_awaited, a_ownerOf, a_moveMask, a_assumption, a_guarantee, a_doomOf, mk)) (hJ : ∀ mk : Nat → Int32, ¬ gm_Q (gm_pre n EN E) (gm_L n p q (gm_pre n EN E) A G (y + 1)) (A i) (k + 1) s → (∀ c, c < n → (¬ mk (k * 8 + c) = 0 ↔ gm_Q (gm_pre n EN E) (gm_L n p q (gm_pre n EN E) A G (y + 1)) (A i) (k + 1) c)) → J52 (nI (k + 1)) a_ownerOf a_moveMask a_assumption a_guarantee a_doomOf mk) : ∀ d c, ∀ mk : Nat → Int32, c + d = n → (∀ t, t < c → (¬ mk (k * 8 + t) = 0 ↔ gm_Q (gm_pre n EN E) (gm_L n p q (gm_pre n EN E) A G (y + 1)) (A i) (k + 1) t)) → (∀ k', k = k' + 1 → ∀ t, t < n → (¬ mk (k' * 8 + t) = 0 ↔ gm_Q (gm_pre n EN E) (gm_L n p q (gm_pre n EN E) A G (y + 1)) (A i) k t)) → wY_distance_63 post J52 (nI s) (nI i) (nI k) f_n f_p f_q f_solved f_token f_awaited (d + 1) (nI c) a_ownerOf a_moveMask a_assumption a_guarantee a_doomOf mk := by
  have hn8 : n ≤ 8 := g.2.2.1
  have hfn : f_n = nI n := g.1
  have hp1 : 0 < p := ha.2.1
  have cls : (nI s).toNatClampNeg = s := nI_clamp (by omega)
  intro d
  induction d with
  | zero =>
    intro c mk hc h1 _
    obtain rfl : c = n := by omega
    have e8 : nI k * 8 + nI s = nI (k * 8 + s) := by rw [yy_x8, nI_add]
    have cl : (nI k * 8 + nI s).toNatClampNeg = k * 8 + s := by rw [e8]; exact nI_clamp (by omega)
    refine br_t (by rw [hfn]; exact nI_le (by omega) (by omega)) ⟨by rw [e8]; exact vp_in_nI (by omega) (by omega), ?_⟩
    rw [cl]
    exact br_c (fun h0 => nm_r (nI_1 k) (hJ mk (fun h => (h1 s hs).2 h h0) h1)) (fun h0 => hpost mk ((h1 s hs).1 h0))
  | succ d ih =>
    intro c mk hc h1 h2
    have hcn : c < n := by omega
    have clc : (nI c).toNatClampNeg = c := nI_clamp (by omega)
    have hQ : (gm_L n p q (gm_pre n EN E) A G (y + 1) c ∧ (A i c ∨ ∃ k', k = k' + 1 ∧ gm_pre n EN E (fun t => ¬ mk (k' * 8 + t) = 0) c)) ↔ gm_Q (gm_pre n EN E) (gm_L n p q (gm_pre n EN E) A G (y + 1)) (A i) (k + 1) c := by
      constructor
      · intro h
        refine ⟨h.1, ?_⟩
        rcases h.2 with h3 | ⟨k', h3, h4⟩
        · exact Or.inl h3
        · exact Or.inr (gm_pre_mono _ _ (fun t ht hh => (h2 k' h3 t ht).1 hh) c hcn h4)
      · intro h
        refine ⟨h.1, ?_⟩
        rcases h.2 with h3 | h3
        · exact Or.inl h3
        · cases k with
          | zero => exact absurd h3 (gm_pre_0 g.2.2.2.2.2 c hcn)
          | succ k => exact Or.inr ⟨k, rfl, gm_pre_mono _ _ (fun t ht hh => (h2 k rfl t ht).2 hh) c hcn h3⟩
    have put : ∀ v : Int32, (¬ v = 0 ↔ gm_Q (gm_pre n EN E) (gm_L n p q (gm_pre n EN E) A G (y + 1)) (A i) (k + 1) c) → wY_distance_63 post J52 (nI s) (nI i) (nI k) f_n f_p f_q f_solved f_token f_awaited (d + 1) (nI (c + 1)) a_ownerOf a_moveMask a_assumption a_guarantee a_doomOf (upd mk (k * 8 + c) v) := by
      intro v hv
      refine ih (c + 1) _ (by omega) (fun t ht => ?_) (fun k' hk' t ht => ?_)
      · by_cases e : t = c
        · subst e; rw [pk_us]; exact hv
        · rw [pk_un (by omega)]; exact h1 t (by omega)
      · rw [pk_un (by omega)]; exact h2 k' hk' t ht
    have h103 : ∀ z0 : Int32, ((z0 = 0 ∧ ¬ gm_L n p q (gm_pre n EN E) A G (y + 1) c) ∨ (z0 = 1 ∧ gm_L n p q (gm_pre n EN E) A G (y + 1) c)) → wY_distance_103 post J52 (wY_distance_63 post J52 (nI s) (nI i) (nI k) f_n f_p f_q f_solved f_token f_awaited (d + 1)) (nI s) (nI i) (nI k) (nI c) z0 f_n f_p f_q f_solved f_token f_awaited a_ownerOf a_moveMask a_assumption a_guarantee a_doomOf mk := fun z0 hz => yy_di103 g ha hi (by omega) hcn hz (fun h => put 1 ⟨fun _ => hQ.1 h, fun _ => ms_ne10⟩) (fun h => put 0 ⟨fun h0 => absurd rfl h0, fun h0 => absurd (hQ.2 h0) h⟩)
    have hin : vp_in (nI c) 8 := vp_in_nI (by omega) (by omega)
    refine br_f (by rw [hfn]; exact nI_ge (by omega) (by omega)) ⟨hin, ?_⟩
    rw [clc, cls, hds]
    rcases gy_T hsol hp1 hq hnq hcn hy with ⟨h3, h4⟩ | ⟨h3, h4, h5⟩ | ⟨h3, h4, h5⟩
    · exact br_t h3 (h103 0 (Or.inl ⟨rfl, h4⟩))
    · exact br_f h3 ⟨hin, vp_in_nI (by omega) (by omega), br_t h4 (h103 0 (Or.inl ⟨rfl, h5⟩))⟩
    · exact br_f h3 ⟨hin, vp_in_nI (by omega) (by omega), br_f h4 (h103 1 (Or.inr ⟨rfl, h5⟩))⟩
theorem yy_di52 {post : Int32 → SY → Prop} {i s y : Nat} (g : gx_g n EN E f_n a_ownerOf a_moveMask) (ha : gx_s n p A f_p a_assumption) (hq : 0 < q) (hnq : n * q ≤ 24) (hsol : gy_sol n p q EN E A G a_doomOf) (hi : i < p) (hs : s < n) (hy : y < n * q) (hL : gm_L n p q (gm_pre n EN E) A G (y + 1) s) (hds : a_doomOf s = nI y) (h : ∀ (mk : Nat → Int32) (d : Nat), d < n → gm_Q (gm_pre n EN E) (gm_L n p q (gm_pre n EN E) A G (y + 1)) (A i) (d + 1) s → ¬ gm_Q (gm_pre n EN E) (gm_L n p q (gm_pre n EN E) A G (y + 1)) (A i) d s → post (nI d) (f_n, f_p, f_q, f_solved, f_token, f_awaited, a_ownerOf, a_moveMask, a_assumption, a_guarantee, a_doomOf, mk)) : ∀ d k, ∀ mk : Nat → Int32, k + d = n → ¬ gm_Q (gm_pre n EN E) (gm_L n p q (gm_pre n EN E) A G (y + 1)) (A i) k s → (∀ k', k = k' + 1 → ∀ t, t < n → (¬ mk (k' * 8 + t) = 0 ↔ gm_Q (gm_pre n EN E) (gm_L n p q (gm_pre n EN E) A G (y + 1)) (A i) k t)) → wY_distance_52 post (nI s) (nI i) f_n f_p f_q f_solved f_token f_awaited (d + 1) (nI k) a_ownerOf a_moveMask a_assumption a_guarantee a_doomOf mk := by
  have hn8 : n ≤ 8 := g.2.2.1
  have hfn : f_n = nI n := g.1
  have hp1 : 0 < p := ha.2.1
  intro d
  induction d with
  | zero =>
    intro k mk hk hQ _
    obtain rfl : k = n := by omega
    exact absurd (gm_Q_all gm_pre_mono hp1 hi (y + 1) s hs hL) hQ
  | succ d ih =>
    intro k mk hk hQ h2
    refine br_f (by rw [hfn]; exact nI_ge (by omega) (by omega)) ⟨n + 1, ?_⟩
    refine yy_di63 g ha hq hnq hsol hi (by omega) hs hy hds (fun mk' h3 => h mk' k (by omega) h3 hQ) (fun mk' h3 h4 => ih (k + 1) mk' (by omega) h3 (fun k' hk' t ht => ?_)) n 0 mk (by omega) (fun t ht => by omega) h2
    obtain rfl : k' = k := by omega
    exact h4 t ht
theorem yy_distance {post : Int32 → SY → Prop} {i s y : Nat} (g : gx_g n EN E f_n a_ownerOf a_moveMask) (ha : gx_s n p A f_p a_assumption) (hg : gx_s n q G f_q a_guarantee) (hsol : gy_sol n p q EN E A G a_doomOf) (hv : ¬ f_solved = 0) (hi : i < p) (hs : s < n) (hy : y < n * q) (hL : gm_L n p q (gm_pre n EN E) A G (y + 1) s) (hL' : ¬ gm_L n p q (gm_pre n EN E) A G y s) (h : ∀ (mk : Nat → Int32) (d : Nat), d < n → gm_Q (gm_pre n EN E) (gm_L n p q (gm_pre n EN E) A G (y + 1)) (A i) (d + 1) s → ¬ gm_Q (gm_pre n EN E) (gm_L n p q (gm_pre n EN E) A G (y + 1)) (A i) d s → post (nI d) (f_n, f_p, f_q, f_solved, f_token, f_awaited, a_ownerOf, a_moveMask, a_assumption, a_guarantee, a_doomOf, mk)) : wpY_distance post (f_n, f_p, f_q, f_solved, f_token, f_awaited, a_ownerOf, a_moveMask, a_assumption, a_guarantee, a_doomOf, a_mark) (nI s) (nI i) := by
  have hn8 : n ≤ 8 := g.2.2.1
  have hp3 : p ≤ 3 := ha.2.2.1
  have hnq := gm_nq hn8 hg.2.2.1
  have cl : (nI s).toNatClampNeg = s := nI_clamp (by omega)
  have hds := hsol.2 s hs y hy hL hL'
  refine br_f (nI_pos (by omega)) (br_t (by rw [g.1]; exact nI_lt hs (by omega)) (br_f (nI_pos (by omega)) (br_t (by rw [ha.1]; exact nI_lt hi (by omega)) (br_f hv ⟨vp_in_nI (by omega) (by omega), ?_⟩))))
  rw [cl, hds]
  exact br_t (nI_pos' (by omega)) ⟨n + 1, yy_di52 g ha hg.2.1 hnq hsol hi hs hy hL hds h n 0 a_mark (by omega) (fun h => h) (fun k' hk' => by omega)⟩
end
end
section
/-! ===== leaving, choosing ===== -/
noncomputable def gm_if (c : Prop) (a b : Nat) : Nat := @ite _ c (Classical.propDecidable c) a b
theorem gm_if_t {c : Prop} {a b : Nat} (h : c) : gm_if c a b = a := if_pos h
theorem gm_if_f {c : Prop} {a b : Nat} (h : ¬ c) : gm_if c a b = b := if_neg h
/-- the first state of least rank among the options, b and m so far -/
noncomputable def gm_am (O : Nat → Prop) (f : Nat → Nat) : Nat → Nat → Nat → Nat → Nat
  | 0, _, b, _ => b
  | d + 1, t, b, m => gm_if (O t ∧ f t < m) (gm_am O f d (t + 1) t (f t)) (gm_am O f d (t + 1) b m)
theorem gm_am_t {O : Nat → Prop} {f : Nat → Nat} {d t b m : Nat} (h : O t ∧ f t < m) : gm_am O f (d + 1) t b m = gm_am O f d (t + 1) t (f t) := gm_if_t h
theorem gm_am_f {O : Nat → Prop} {f : Nat → Nat} {d t b m : Nat} (h : ¬ (O t ∧ f t < m)) : gm_am O f (d + 1) t b m = gm_am O f d (t + 1) b m := gm_if_f h
theorem gm_am_eq {n : Nat} {O : Nat → Prop} {f g : Nat → Nat} (hfg : ∀ t t', t < n → t' < n → O t → O t' → (f t < f t' ↔ g t < g t')) : ∀ d t b m m', t + d = n → (∀ s, s < n → O s → (f s < m ↔ g s < m')) → gm_am O f d t b m = gm_am O g d t b m' := by
  intro d
  induction d with
  | zero => intro t b m m' _ _; rfl
  | succ d ih =>
    intro t b m m' ht h
    by_cases hc : O t ∧ f t < m
    · have hc' : O t ∧ g t < m' := ⟨hc.1, (h t (by omega) hc.1).1 hc.2⟩
      rw [gm_am_t hc, gm_am_t hc']
      exact ih (t + 1) t (f t) (g t) (by omega) fun s hs hO => hfg s t hs (by omega) hO hc.1
    · have hc' : ¬ (O t ∧ g t < m') := fun hh => hc ⟨hh.1, (h t (by omega) hh.1).2 hh.2⟩
      rw [gm_am_f hc, gm_am_f hc']
      exact ih (t + 1) b m m' (by omega) h
theorem gm_am_mem {n : Nat} {O V : Nat → Prop} {f : Nat → Nat} (hV : ∀ t, t < n → O t → V t) : ∀ d t b m, t + d = n → V b → V (gm_am O f d t b m) := by
  intro d
  induction d with
  | zero => intro t b m _ h; exact h
  | succ d ih =>
    intro t b m ht h
    by_cases hc : O t ∧ f t < m
    · rw [gm_am_t hc]
      exact ih (t + 1) t (f t) (by omega) (hV t (by omega) hc.1)
    · rw [gm_am_f hc]
      exact ih (t + 1) b m (by omega) h
/-- the awaited number behind s -/
noncomputable def gm_lv (n p q : Nat) (EN : Nat → Prop) (E A G : Nat → Nat → Prop) (s m : Nat) : Nat := gm_if (gm_L n p q (gm_pre n EN E) A G (n * q) s) (gm_if (A m s) ((m + 1) % p) m) (gm_if (G m s) ((m + 1) % q) m)
section
variable {n p q : Nat} {EN : Nat → Prop} {E A G : Nat → Nat → Prop}
theorem gm_lv_L {s m : Nat} (hL : gm_L n p q (gm_pre n EN E) A G (n * q) s) (hm : m < p) : gm_lv n p q EN E A G s m < p := by
  unfold gm_lv
  rw [gm_if_t hL]
  by_cases h : A m s
  · rw [gm_if_t h]; exact Nat.mod_lt _ (by omega)
  · rw [gm_if_f h]; exact hm
theorem gm_lv_W {s m : Nat} (hL : ¬ gm_L n p q (gm_pre n EN E) A G (n * q) s) (hm : m < q) : gm_lv n p q EN E A G s m < q := by
  unfold gm_lv
  rw [gm_if_f hL]
  by_cases h : G m s
  · rw [gm_if_t h]; exact Nat.mod_lt _ (by omega)
  · rw [gm_if_f h]; exact hm
section
variable {f_n f_p f_q f_full f_solved f_won f_lost f_playing f_tokenState f_awaitedNumber : Int32}
variable {a_owners a_succ a_assume a_guar a_siegeLayers a_doomOf a_debtOf a_distOf : Nat → Int32}
theorem xx_after' {post : Int32 → Prop} {m k : Nat} {fk : Int32} (hm : m < k) (hk3 : k ≤ 3) (hfk : fk = nI k) (h : post (nI ((m + 1) % k))) : wpX_after post (f_n, f_p, f_q, f_full, f_solved, f_won, f_lost, f_playing, f_tokenState, f_awaitedNumber, a_owners, a_succ, a_assume, a_guar, a_siegeLayers, a_doomOf, a_debtOf, a_distOf) (nI m) fk := by
  have h1 := xx_after (f_n := f_n) (f_p := f_p) (f_q := f_q) (f_full := f_full) (f_solved := f_solved) (f_won := f_won) (f_lost := f_lost) (f_playing := f_playing) (f_tokenState := f_tokenState) (f_awaitedNumber := f_awaitedNumber) (a_owners := a_owners) (a_succ := a_succ) (a_assume := a_assume) (a_guar := a_guar) (a_siegeLayers := a_siegeLayers) (a_doomOf := a_doomOf) (a_debtOf := a_debtOf) (a_distOf := a_distOf) (y := m) (k := k) (by omega) hk3 hfk h
  rw [Nat.mod_eq_of_lt hm] at h1
  exact h1
theorem xx_leave {post : Int32 → Prop} {s m : Nat} (hn : n ≤ 8) (ha : gx_s n p A f_p a_assume) (hg : gx_s n q G f_q a_guar) (hw : ms_of n f_won (fun t => ¬ gm_L n p q (gm_pre n EN E) A G (n * q) t)) (hs : s < n) (hmL : gm_L n p q (gm_pre n EN E) A G (n * q) s → m < p) (hmW : ¬ gm_L n p q (gm_pre n EN E) A G (n * q) s → m < q) (h : post (nI (gm_lv n p q EN E A G s m))) : wpX_leave post (f_n, f_p, f_q, f_full, f_solved, f_won, f_lost, f_playing, f_tokenState, f_awaitedNumber, a_owners, a_succ, a_assume, a_guar, a_siegeLayers, a_doomOf, a_debtOf, a_distOf) (nI s) (nI m) := by
  obtain ⟨hfp, hp1, hp3, hA⟩ := ha
  obtain ⟨hfq, hq1, hq3, hG⟩ := hg
  unfold gm_lv at h
  unfold wpX_leave
  dsimp only
  refine xx_has_s hn hs hw (fun hW => ?_) (fun hW => ?_)
  · have hm := hmW hW
    have cl : (nI m).toNatClampNeg = m := nI_clamp (by omega)
    rw [gm_if_f hW] at h
    refine br_f ms_ne10 ⟨vp_in_nI (by omega) (by omega), ?_⟩
    rw [cl]
    refine xx_has_s hn hs (hG m hm) (fun h1 => br_f ms_ne10 ?_) (fun h1 => br_t rfl ?_)
    · rw [gm_if_t h1] at h
      exact xx_after' hm hq3 hfq h
    · rw [gm_if_f h1] at h
      exact h
  · have hL := Classical.byContradiction hW
    have hm := hmL hL
    have cl : (nI m).toNatClampNeg = m := nI_clamp (by omega)
    rw [gm_if_t hL] at h
    refine br_t rfl ⟨vp_in_nI (by omega) (by omega), ?_⟩
    rw [cl]
    refine xx_has_s hn hs (hA m hm) (fun h1 => br_f ms_ne10 ?_) (fun h1 => br_t rfl ?_)
    · rw [gm_if_t h1] at h
      exact xx_after' hm hp3 hfp h
    · rw [gm_if_f h1] at h
      exact h
theorem xx_choose54 {post : Int32 → Prop} {x5 : Int32} {O : Nat → Prop} {f : Nat → Nat} {so : Nat} (hfn : f_n = nI n) (hn : n ≤ 8) (h5 : ms_of n x5 O) (hf : ∀ t, t < n → O t → f t < 1000 ∧ ∀ post : Int32 → Prop, post (nI (f t)) → wpX_rankOf post (f_n, f_p, f_q, f_full, f_solved, f_won, f_lost, f_playing, f_tokenState, f_awaitedNumber, a_owners, a_succ, a_assume, a_guar, a_siegeLayers, a_doomOf, a_debtOf, a_distOf) (nI t) (nI so)) : ∀ d t b m, t + d = n → m ≤ 1000 → post (nI (gm_am O f d t b m)) → wX_choose_54 post (nI so) x5 f_n f_p f_q f_full f_solved f_won f_lost f_playing f_tokenState f_awaitedNumber a_owners a_succ a_assume a_guar a_siegeLayers a_doomOf a_debtOf a_distOf (d + 1) (nI b) (nI m) (nI t) := by
  intro d
  induction d with
  | zero =>
    intro t b m ht _ h
    exact br_t (by rw [hfn]; exact nI_le (by omega) (by omega)) h
  | succ d ih =>
    intro t b m ht hm h
    have htn : t < n := by omega
    refine br_f (by rw [hfn]; exact nI_ge (by omega) (by omega)) (xx_has_s hn htn h5 (fun hO => br_f ms_ne10 ?_) (fun hO => br_t rfl (nm_r (nI_1 t) (ih (t + 1) b m (by omega) hm ?_))))
    · obtain ⟨hf1, hf2⟩ := hf t htn hO
      refine hf2 _ ?_
      by_cases hlt : f t < m
      · rw [gm_am_t ⟨hO, hlt⟩] at h
        exact br_f (nI_ge hlt (by omega)) (nm_r (nI_1 t) (ih (t + 1) t (f t) (by omega) (by omega) h))
      · rw [gm_am_f (fun hh => hlt hh.2)] at h
        exact br_t (nI_le (by omega) (by omega)) (nm_r (nI_1 t) (ih (t + 1) b m (by omega) hm h))
    · rw [gm_am_f (fun hh => hO hh.1)] at h
      exact h
/-- X's rank of t for the sought number, as a natural -/
def gx_rk (n p q : Nat) (EN : Nat → Prop) (E A G : Nat → Nat → Prop) (dm db ds : Nat → Int32) (so t f : Nat) : Prop := (¬ gm_L n p q (gm_pre n EN E) A G (n * q) t → db (t * 3 + so) = nI f ∧ f < 1000) ∧ (gm_L n p q (gm_pre n EN E) A G (n * q) t → ∃ a b, dm t = nI a ∧ ds (t * 3 + so) = nI b ∧ f = a * 8 + b ∧ f < 1000)
theorem xx_rankOf {post : Int32 → Prop} {so t f : Nat} (hn : n ≤ 8) (hso : so < 3) (ht : t < n) (hw : ms_of n f_won (fun t => ¬ gm_L n p q (gm_pre n EN E) A G (n * q) t)) (hf : gx_rk n p q EN E A G a_doomOf a_debtOf a_distOf so t f) (h : post (nI f)) : wpX_rankOf post (f_n, f_p, f_q, f_full, f_solved, f_won, f_lost, f_playing, f_tokenState, f_awaitedNumber, a_owners, a_succ, a_assume, a_guar, a_siegeLayers, a_doomOf, a_debtOf, a_distOf) (nI t) (nI so) := by
  have cl : (nI t).toNatClampNeg = t := nI_clamp (by omega)
  have cl2 : (nI (t * 3 + so)).toNatClampNeg = t * 3 + so := nI_clamp (by omega)
  have hin : vp_in (nI (t * 3 + so)) 24 := vp_in_nI (by omega) (by omega)
  refine nm_r (gm_x3 t so) (xx_has_s hn ht hw (fun hW => br_f ms_ne10 ⟨hin, ?_⟩) (fun hW => br_t rfl ⟨vp_in_nI (by omega) (by omega), hin, ?_⟩))
  · rw [cl2, (hf.1 hW).1]
    exact h
  · obtain ⟨a, b, h1, h2, h3, h4⟩ := hf.2 (Classical.byContradiction hW)
    rw [cl, cl2, h1, h2, yy_x8, nI_add, ← h3]
    exact h
theorem xx_choose {post : Int32 → Prop} {s m : Nat} {f : Nat → Nat} (g : gx_g n EN E f_n a_owners a_succ) (ha : gx_s n p A f_p a_assume) (hg : gx_s n q G f_q a_guar) (hw : ms_of n f_won (fun t => ¬ gm_L n p q (gm_pre n EN E) A G (n * q) t)) (hl : ms_of n f_lost (gm_L n p q (gm_pre n EN E) A G (n * q))) (hs : s < n) (hmL : gm_L n p q (gm_pre n EN E) A G (n * q) s → m < p) (hmW : ¬ gm_L n p q (gm_pre n EN E) A G (n * q) s → m < q) (hf : ∀ t, t < n → (gm_L n p q (gm_pre n EN E) A G (n * q) t ↔ gm_L n p q (gm_pre n EN E) A G (n * q) s) → gx_rk n p q EN E A G a_doomOf a_debtOf a_distOf (gm_lv n p q EN E A G s m) t (f t)) (h : post (nI (gm_am (fun t => E s t ∧ (gm_L n p q (gm_pre n EN E) A G (n * q) t ↔ gm_L n p q (gm_pre n EN E) A G (n * q) s)) f n 0 s 1000))) : wpX_choose post (f_n, f_p, f_q, f_full, f_solved, f_won, f_lost, f_playing, f_tokenState, f_awaitedNumber, a_owners, a_succ, a_assume, a_guar, a_siegeLayers, a_doomOf, a_debtOf, a_distOf) (nI s) (nI m) := by
  have hn8 : n ≤ 8 := g.2.2.1
  have hfn : f_n = nI n := g.1
  have hp3 : p ≤ 3 := ha.2.2.1
  have hq3 : q ≤ 3 := hg.2.2.1
  have cl : (nI s).toNatClampNeg = s := nI_clamp (by omega)
  have hso : gm_lv n p q EN E A G s m < 3 := by
    by_cases hL : gm_L n p q (gm_pre n EN E) A G (n * q) s
    · have := gm_lv_L (EN := EN) (E := E) (A := A) (G := G) hL (hmL hL); omega
    · have := gm_lv_W (EN := EN) (E := E) (A := A) (G := G) hL (hmW hL); omega
  have hrk : ∀ t, t < n → (E s t ∧ (gm_L n p q (gm_pre n EN E) A G (n * q) t ↔ gm_L n p q (gm_pre n EN E) A G (n * q) s)) → f t < 1000 ∧ ∀ post : Int32 → Prop, post (nI (f t)) → wpX_rankOf post (f_n, f_p, f_q, f_full, f_solved, f_won, f_lost, f_playing, f_tokenState, f_awaitedNumber, a_owners, a_succ, a_assume, a_guar, a_siegeLayers, a_doomOf, a_debtOf, a_distOf) (nI t) (nI (gm_lv n p q EN E A G s m)) := by
    intro t ht hO
    have h1 := hf t ht hO.2
    refine ⟨?_, fun post h2 => xx_rankOf hn8 hso ht hw h1 h2⟩
    by_cases hL : gm_L n p q (gm_pre n EN E) A G (n * q) t
    · obtain ⟨_, _, _, _, _, h4⟩ := h1.2 hL
      exact h4
    · exact (h1.1 hL).2
  unfold wpX_choose
  dsimp only
  refine xx_leave hn8 ha hg hw hs hmL hmW ?_
  refine (xx_has_s hn8 hs hw (fun hW => br_f ms_ne10 ⟨vp_in_nI (by omega) (by omega), ?_⟩) (fun hW => br_t rfl ⟨vp_in_nI (by omega) (by omega), ?_⟩))
  · rw [cl]
    refine nm_e ⟨n + 1, xx_choose54 hfn hn8 (ms_cg (fun t ht => ?_) (ms_and (g.2.2.2.2.1 s hs) hw)) hrk n 0 s 1000 (by omega) (by omega) h⟩
    exact ⟨fun h1 => ⟨h1.1, fun h2 => absurd h2 h1.2, fun h2 => absurd h2 hW⟩, fun h1 => ⟨h1.1, fun h2 => hW (h1.2.1 h2)⟩⟩
  · rw [cl]
    have hL := Classical.byContradiction hW
    refine nm_e ⟨n + 1, xx_choose54 hfn hn8 (ms_cg (fun t ht => ?_) (ms_and (g.2.2.2.2.1 s hs) hl)) hrk n 0 s 1000 (by omega) (by omega) h⟩
    exact ⟨fun h1 => ⟨h1.1, fun _ => hL, fun _ => h1.2⟩, fun h1 => ⟨h1.1, h1.2.2 hL⟩⟩
end
section
variable {f_n f_p f_q f_solved f_token f_awaited : Int32}
variable {a_ownerOf a_moveMask a_assumption a_guarantee a_doomOf a_mark : Nat → Int32}
theorem yy_leaving {post : Int32 → Prop} {s m : Nat} (hn : n ≤ 8) (ha : gx_s n p A f_p a_assumption) (hg : gx_s n q G f_q a_guarantee) (hsol : gy_sol n p q EN E A G a_doomOf) (hs : s < n) (hmL : gm_L n p q (gm_pre n EN E) A G (n * q) s → m < p) (hmW : ¬ gm_L n p q (gm_pre n EN E) A G (n * q) s → m < q) (h : post (nI (gm_lv n p q EN E A G s m))) : wpY_leaving post (f_n, f_p, f_q, f_solved, f_token, f_awaited, a_ownerOf, a_moveMask, a_assumption, a_guarantee, a_doomOf, a_mark) (nI s) (nI m) := by
  obtain ⟨hfp, hp1, hp3, hA⟩ := ha
  obtain ⟨hfq, hq1, hq3, hG⟩ := hg
  have hnq := gm_nq hn hq3
  have cls : (nI s).toNatClampNeg = s := nI_clamp (by omega)
  unfold gm_lv at h
  refine ⟨vp_in_nI (by omega) (by omega), ?_⟩
  rw [cls]
  rcases gy_pos hsol hnq hs with ⟨hL, h3, _⟩ | ⟨hL, h3, _⟩
  · have hm := hmL hL
    have cl : (nI m).toNatClampNeg = m := nI_clamp (by omega)
    rw [gm_if_t hL] at h
    refine br_t h3 ⟨vp_in_nI (by omega) (by omega), ?_⟩
    rw [cl]
    refine yy_has_s hn hs (hA m hm) (fun h1 => br_f ms_ne10 ⟨by rw [hfp]; exact nI_ne0 hp1 (by omega), ?_⟩) (fun h1 => br_t rfl ?_)
    · rw [gm_if_t h1] at h
      rw [nI_1, hfp, pk_rem (by omega) hp1 (by omega)]
      exact h
    · rw [gm_if_f h1] at h
      exact h
  · have hm := hmW hL
    have cl : (nI m).toNatClampNeg = m := nI_clamp (by omega)
    rw [gm_if_f hL] at h
    refine br_f h3 ⟨vp_in_nI (by omega) (by omega), ?_⟩
    rw [cl]
    refine yy_has_s hn hs (hG m hm) (fun h1 => br_f ms_ne10 ⟨by rw [hfq]; exact nI_ne0 hq1 (by omega), ?_⟩) (fun h1 => br_t rfl ?_)
    · rw [gm_if_t h1] at h
      rw [nI_1, hfq, pk_rem (by omega) hq1 (by omega)]
      exact h
    · rw [gm_if_f h1] at h
      exact h
/-- Y's value of t for the sought number, as a natural -/
def gy_rk (n p q : Nat) (EN : Nat → Prop) (E A G : Nat → Nat → Prop) (so t f : Nat) : Prop := f < 1000000 ∧ (¬ gm_L n p q (gm_pre n EN E) A G (n * q) t → ∀ z, gm_D n p (gm_pre n EN E) A (gm_gl n p q (gm_pre n EN E) A G so) (z + 1) t → ¬ gm_D n p (gm_pre n EN E) A (gm_gl n p q (gm_pre n EN E) A G so) z t → z = f) ∧ (gm_L n p q (gm_pre n EN E) A G (n * q) t → ∃ y i, i = so ∧ y < n * q ∧ gm_L n p q (gm_pre n EN E) A G (y + 1) t ∧ ¬ gm_L n p q (gm_pre n EN E) A G y t ∧ ∀ d, gm_Q (gm_pre n EN E) (gm_L n p q (gm_pre n EN E) A G (y + 1)) (A i) (d + 1) t → ¬ gm_Q (gm_pre n EN E) (gm_L n p q (gm_pre n EN E) A G (y + 1)) (A i) d t → f = y * 100 + d)
theorem yy_162 {post : Int32 → SY → Prop} {J : Int32 → Int32 → Int32 → Int32 → Int32 → Int32 → Int32 → Int32 → Int32 → (Nat → Int32) → (Nat → Int32) → (Nat → Int32) → (Nat → Int32) → (Nat → Int32) → (Nat → Int32) → Prop} {x1 x3 x4 : Int32} {b m t v : Nat} (hm : m ≤ 1000000) (hv : v < 1000000) (ht : v < m → J (nI t) (nI v) (nI (t + 1)) f_n f_p f_q f_solved f_token f_awaited a_ownerOf a_moveMask a_assumption a_guarantee a_doomOf a_mark) (hf : ¬ v < m → J (nI b) (nI m) (nI (t + 1)) f_n f_p f_q f_solved f_token f_awaited a_ownerOf a_moveMask a_assumption a_guarantee a_doomOf a_mark) : wY_choice_162 post J x1 x3 x4 (nI b) (nI m) (nI t) (nI v) f_n f_p f_q f_solved f_token f_awaited a_ownerOf a_moveMask a_assumption a_guarantee a_doomOf a_mark := by
  by_cases h : v < m
  · exact br_f (nI_ge h (by omega)) (nm_r (nI_1 t) (ht h))
  · exact br_t (nI_le (by omega) (by omega)) (nm_r (nI_1 t) (hf h))
theorem yy_choice87 {post : Int32 → SY → Prop} {f : Nat → Nat} {s so : Nat} {sd : Int32} (g : gx_g n EN E f_n a_ownerOf a_moveMask) (ha : gx_s n p A f_p a_assumption) (hg : gx_s n q G f_q a_guarantee) (hsol : gy_sol n p q EN E A G a_doomOf) (hv : ¬ f_solved = 0) (hs : s < n) (hsd : (gm_L n p q (gm_pre n EN E) A G (n * q) s ∧ sd = 0 ∧ so < p) ∨ (¬ gm_L n p q (gm_pre n EN E) A G (n * q) s ∧ sd = 1 ∧ so < q)) (hf : ∀ t, t < n → (gm_L n p q (gm_pre n EN E) A G (n * q) t ↔ gm_L n p q (gm_pre n EN E) A G (n * q) s) → gy_rk n p q EN E A G so t (f t)) : ∀ d t b m, ∀ mk : Nat → Int32, t + d = n → m ≤ 1000000 → (∀ mk : Nat → Int32, post (nI (gm_am (fun t => E s t ∧ (gm_L n p q (gm_pre n EN E) A G (n * q) t ↔ gm_L n p q (gm_pre n EN E) A G (n * q) s)) f d t b m)) (f_n, f_p, f_q, f_solved, f_token, f_awaited, a_ownerOf, a_moveMask, a_assumption, a_guarantee, a_doomOf, mk)) → wY_choice_87 post (nI s) sd (nI so) (d + 1) (nI b) (nI m) (nI t) f_n f_p f_q f_solved f_token f_awaited a_ownerOf a_moveMask a_assumption a_guarantee a_doomOf mk := by
  have hn8 : n ≤ 8 := g.2.2.1
  have hfn : f_n = nI n := g.1
  have hnq := gm_nq hn8 hg.2.2.1
  have cls : (nI s).toNatClampNeg = s := nI_clamp (by omega)
  intro d
  induction d with
  | zero =>
    intro t b m mk ht _ h
    exact br_t (by rw [hfn]; exact nI_le (by omega) (by omega)) (h mk)
  | succ d ih =>
    intro t b m mk ht hm h
    have htn : t < n := by omega
    have clt : (nI t).toNatClampNeg = t := nI_clamp (by omega)
    have skip : ¬ (E s t ∧ (gm_L n p q (gm_pre n EN E) A G (n * q) t ↔ gm_L n p q (gm_pre n EN E) A G (n * q) s)) → wY_choice_87 post (nI s) sd (nI so) (d + 1) (nI b) (nI m) (nI (t + 1)) f_n f_p f_q f_solved f_token f_awaited a_ownerOf a_moveMask a_assumption a_guarantee a_doomOf mk := by
      intro hO
      refine ih (t + 1) b m mk (by omega) hm fun mk' => ?_
      have h1 := h mk'
      rw [gm_am_f (fun hh => hO hh.1)] at h1
      exact h1
    have take : ∀ mk' : Nat → Int32, (E s t ∧ (gm_L n p q (gm_pre n EN E) A G (n * q) t ↔ gm_L n p q (gm_pre n EN E) A G (n * q) s)) → wY_choice_162 post (wY_choice_87 post (nI s) sd (nI so) (d + 1)) (nI s) sd (nI so) (nI b) (nI m) (nI t) (nI (f t)) f_n f_p f_q f_solved f_token f_awaited a_ownerOf a_moveMask a_assumption a_guarantee a_doomOf mk' := by
      intro mk' hO
      have hft := (hf t htn hO.2).1
      refine yy_162 hm hft (fun hlt => ih (t + 1) t (f t) mk' (by omega) (by omega) fun mk2 => ?_) (fun hlt => ih (t + 1) b m mk' (by omega) hm fun mk2 => ?_)
      · have h1 := h mk2
        rw [gm_am_t ⟨hO, hlt⟩] at h1
        exact h1
      · have h1 := h mk2
        rw [gm_am_f (fun hh => hlt hh.2)] at h1
        exact h1
    refine br_f (by rw [hfn]; exact nI_ge (by omega) (by omega)) ⟨vp_in_nI (by omega) (by omega), ?_⟩
    rw [cls]
    refine yy_has_s hn8 htn (g.2.2.2.2.1 s hs) (fun hE => br_f ms_ne10 ?_) (fun hE => br_t rfl (nm_r (nI_1 t) (skip fun hO => hE hO.1)))
    refine yy_winner hfn hn8 hnq hsol hv htn (fun hLt => ?_) (fun hLt => ?_)
    · rcases hsd with ⟨hLs, rfl, hso⟩ | ⟨hLs, rfl, hso⟩
      · have hO : E s t ∧ (gm_L n p q (gm_pre n EN E) A G (n * q) t ↔ gm_L n p q (gm_pre n EN E) A G (n * q) s) := ⟨hE, fun _ => hLs, fun _ => hLt⟩
        obtain ⟨y, i, rfl, hy, h1, h2, h3⟩ := (hf t htn hO.2).2.2 hLt
        refine br_t rfl (br_f (fun e => ms_ne10 e.symm) ⟨vp_in_nI (by omega) (by omega), yy_distance g ha hg hsol hv hso htn hy h1 h2 fun mk' d' hd' h4 h5 => ?_⟩)
        show wY_choice_162 post _ _ _ _ _ _ _ (a_doomOf (nI t).toNatClampNeg * 100 + nI d') _ _ _ _ _ _ _ _ _ _ _ _
        rw [clt, hsol.2 t htn y hy h1 h2, show nI y * 100 = nI (y * 100) from pk_mul y 100, nI_add, ← h3 d' h4 h5]
        exact take mk' hO
      · exact br_f (fun e => ms_ne10 e.symm) (nm_r (nI_1 t) (skip fun hO => hLs (hO.2.1 hLt)))
    · rcases hsd with ⟨hLs, rfl, hso⟩ | ⟨hLs, rfl, hso⟩
      · exact br_f ms_ne10 (nm_r (nI_1 t) (skip fun hO => hLt (hO.2.2 hLs)))
      · have hO : E s t ∧ (gm_L n p q (gm_pre n EN E) A G (n * q) t ↔ gm_L n p q (gm_pre n EN E) A G (n * q) s) := ⟨hE, fun h => absurd h hLt, fun h => absurd h hLs⟩
        refine br_t rfl (br_t rfl (yy_debt g ha hg hsol hv htn hso hLt fun mk' z hz h1 h2 => ?_))
        have e := (hf t htn hO.2).2.1 hLt z h1 h2
        rw [e]
        exact take mk' hO
end
end
end
section
/-! ===== the relation; the constructors ===== -/
def rl_play (n p q : Nat) (EN : Nat → Prop) (E A G : Nat → Nat → Prop) (sv pl ts an tk aw : Int32) : Prop := (pl = 0 ∧ tk = -1) ∨ (¬ pl = 0 ∧ ¬ sv = 0 ∧ ∃ s m, s < n ∧ ts = nI s ∧ tk = nI s ∧ an = nI m ∧ aw = nI m ∧ (gm_L n p q (gm_pre n EN E) A G (n * q) s → m < p) ∧ (¬ gm_L n p q (gm_pre n EN E) A G (n * q) s → m < q))
def rl_R (n p q : Nat) (EN : Nat → Prop) (E A G : Nat → Nat → Prop) (f_n f_p f_q f_full f_solved f_won f_lost f_playing f_tokenState f_awaitedNumber : Int32) (a_owners a_succ a_assume a_guar a_siegeLayers a_doomOf a_debtOf a_distOf : Nat → Int32) (g_n g_p g_q g_solved g_token g_awaited : Int32) (b_ownerOf b_moveMask b_assumption b_guarantee b_doomOf b_mark : Nat → Int32) : Prop := gx_g n EN E f_n a_owners a_succ ∧ gx_s n p A f_p a_assume ∧ gx_s n q G f_q a_guar ∧ ms_of n f_full (fun _ => True) ∧ gx_g n EN E g_n b_ownerOf b_moveMask ∧ gx_s n p A g_p b_assumption ∧ gx_s n q G g_q b_guarantee ∧ (f_solved = 0 ↔ g_solved = 0) ∧ (¬ f_solved = 0 → gx_sol n p q EN E A G f_won f_lost a_doomOf a_debtOf a_distOf ∧ gy_sol n p q EN E A G b_doomOf) ∧ rl_play n p q EN E A G f_solved f_playing f_tokenState f_awaitedNumber g_token g_awaited
def i_Rel (_ : Nat) (u : SX) (v : SY) : Prop := match u, v with
  | (f_n, f_p, f_q, f_full, f_solved, f_won, f_lost, f_playing, f_tokenState, f_awaitedNumber, a_owners, a_succ, a_assume, a_guar, a_siegeLayers, a_doomOf, a_debtOf, a_distOf), (g_n, g_p, g_q, g_solved, g_token, g_awaited, b_ownerOf, b_moveMask, b_assumption, b_guarantee, b_doomOf, b_mark) => ∃ (n p q : Nat) (EN : Nat → Prop) (E A G : Nat → Nat → Prop), rl_R n p q EN E A G f_n f_p f_q f_full f_solved f_won f_lost f_playing f_tokenState f_awaitedNumber a_owners a_succ a_assume a_guar a_siegeLayers a_doomOf a_debtOf a_distOf g_n g_p g_q g_solved g_token g_awaited b_ownerOf b_moveMask b_assumption b_guarantee b_doomOf b_mark
theorem i_up {k : Nat} {u : SX} {v : SY} (h : i_Rel k u v) : i_Rel (k + 4) u v := h
theorem gm_clamp (lo hi : Nat) (h : lo ≤ hi) (hh : hi < 2 ^ 31) (v : Int32) : ∃ j, lo ≤ j ∧ j ≤ hi ∧ ∀ F : Int32 → Prop, F (nI j) → ((nI lo ≤ v → ((v ≤ nI hi → F v) ∧ (¬ v ≤ nI hi → F (nI hi)))) ∧ (¬ nI lo ≤ v → F (nI lo))) := by
  by_cases h1 : nI lo ≤ v
  · have h0 : ¬ v < 0 := by
      intro h2
      have h3 : nI lo < 0 := Int32.lt_of_le_of_lt h1 h2
      exact nI_pos (by omega) h3
    obtain ⟨j, hj, rfl⟩ := nI_of h0
    rw [nI_leI (by omega) hj] at h1
    by_cases h2 : j ≤ hi
    · exact ⟨j, h1, h2, fun F hF => br_t (nI_le h1 hj) (br_t (nI_le h2 hh) hF)⟩
    · exact ⟨hi, h, Nat.le_refl _, fun F hF => br_t (nI_le h1 hj) (br_f (nI_ge (by omega) hj) hF)⟩
  · exact ⟨lo, Nat.le_refl _, h, fun F hF => br_f h1 hF⟩
section
variable {n p q : Nat} {EN : Nat → Prop} {E A G : Nat → Nat → Prop}
section
variable {f_n f_p f_q f_full f_solved f_won f_lost f_playing f_tokenState f_awaitedNumber : Int32}
variable {a_owners a_succ a_assume a_guar a_siegeLayers a_doomOf a_debtOf a_distOf : Nat → Int32}
theorem xx_clamp {post : Int32 → Prop} {v : Int32} (lo hi : Nat) {j : Nat} (hj : ∀ F : Int32 → Prop, F (nI j) → ((nI lo ≤ v → ((v ≤ nI hi → F v) ∧ (¬ v ≤ nI hi → F (nI hi)))) ∧ (¬ nI lo ≤ v → F (nI lo)))) (h : post (nI j)) : wpX_clamp post (f_n, f_p, f_q, f_full, f_solved, f_won, f_lost, f_playing, f_tokenState, f_awaitedNumber, a_owners, a_succ, a_assume, a_guar, a_siegeLayers, a_doomOf, a_debtOf, a_distOf) v (nI lo) (nI hi) := hj post h
theorem xx_init152 {post : SX → Prop} (h : ∀ as gs : Nat → Int32, (∀ i, i < 3 → as i = f_full) → (∀ i, i < 3 → gs i = f_full) → post (f_n, f_p, f_q, f_full, f_solved, f_won, f_lost, f_playing, f_tokenState, f_awaitedNumber, a_owners, a_succ, as, gs, a_siegeLayers, a_doomOf, a_debtOf, a_distOf)) : ∀ d k, ∀ as gs : Nat → Int32, k + d = 3 → (∀ i, i < k → as i = f_full) → (∀ i, i < k → gs i = f_full) → wX_init_152 post f_n f_p f_q f_full f_solved f_won f_lost f_playing f_tokenState f_awaitedNumber (d + 1) (nI k) a_owners a_succ as gs a_siegeLayers a_doomOf a_debtOf a_distOf := by
  intro d
  induction d with
  | zero =>
    intro k as gs hk h1 h2
    obtain rfl : k = 3 := by omega
    exact br_t (nI_le (a := 3) (by omega) (by omega)) (h as gs h1 h2)
  | succ d ih =>
    intro k as gs hk h1 h2
    have cl : (nI k).toNatClampNeg = k := nI_clamp (by omega)
    have hin : vp_in (nI k) 3 := vp_in_nI (by omega) (by omega)
    refine br_f (nI_ge (b := 3) (by omega) (by omega)) ⟨hin, nm_r (e' := upd as k f_full) (by rw [cl]) ⟨hin, nm_r (e' := upd gs k f_full) (by rw [cl]) (nm_r (nI_1 k) (ih (k + 1) _ _ (by omega) (fun i hi => ?_) (fun i hi => ?_)))⟩⟩
    · by_cases e : i = k
      · subst e; rw [pk_us]
      · rw [pk_un e]; exact h1 i (by omega)
    · by_cases e : i = k
      · subst e; rw [pk_us]
      · rw [pk_un e]; exact h2 i (by omega)
theorem xx_init115 {post : SX → Prop} (hfn : f_n = nI n) (hn : n ≤ 8) (h : ∀ ow su as gs : Nat → Int32, (∀ c, c < n → ow c = 0 ∧ su c = (1 : Int32) <<< (nI c &&& 31)) → (∀ i, i < 3 → as i = f_full) → (∀ i, i < 3 → gs i = f_full) → post (f_n, f_p, f_q, f_full, f_solved, f_won, f_lost, f_playing, f_tokenState, f_awaitedNumber, ow, su, as, gs, a_siegeLayers, a_doomOf, a_debtOf, a_distOf)) : ∀ d s, ∀ ow su : Nat → Int32, s + d = n → (∀ c, c < s → ow c = 0 ∧ su c = (1 : Int32) <<< (nI c &&& 31)) → wX_init_115 post f_n f_p f_q f_full f_solved f_won f_lost f_playing f_tokenState f_awaitedNumber (d + 1) (nI s) ow su a_assume a_guar a_siegeLayers a_doomOf a_debtOf a_distOf := by
  intro d
  induction d with
  | zero =>
    intro s ow su hs h1
    obtain rfl : s = n := by omega
    exact br_t (by rw [hfn]; exact nI_le (by omega) (by omega)) ⟨3 + 1, xx_init152 (fun as gs h2 h3 => h ow su as gs h1 h2 h3) 3 0 a_assume a_guar (by omega) (fun i hi => by omega) (fun i hi => by omega)⟩
  | succ d ih =>
    intro s ow su hs h1
    have cl : (nI s).toNatClampNeg = s := nI_clamp (by omega)
    have hin : vp_in (nI s) 8 := vp_in_nI (by omega) (by omega)
    refine br_f (by rw [hfn]; exact nI_ge (by omega) (by omega)) ⟨hin, nm_r (e' := upd ow s 0) (by rw [cl]) ⟨hin, nm_r (e' := upd su s ((1 : Int32) <<< (nI s &&& 31))) (by rw [cl]) (nm_r (nI_1 s) (ih (s + 1) _ _ (by omega) fun c hc => ?_))⟩⟩
    by_cases e : c = s
    · subst e; rw [pk_us, pk_us]; exact ⟨rfl, rfl⟩
    · rw [pk_un e, pk_un e]; exact h1 c (by omega)
end
section
variable {f_n f_p f_q f_solved f_token f_awaited : Int32}
variable {a_ownerOf a_moveMask a_assumption a_guarantee a_doomOf a_mark : Nat → Int32}
theorem yy_init160 {post : SY → Prop} (h : ∀ as gs : Nat → Int32, (∀ i, i < 3 → as i = ((1 : Int32) <<< (f_n &&& 31)) - 1) → (∀ i, i < 3 → gs i = ((1 : Int32) <<< (f_n &&& 31)) - 1) → post (f_n, f_p, f_q, 0, -1, 0, a_ownerOf, a_moveMask, as, gs, a_doomOf, a_mark)) : ∀ d k, ∀ as gs : Nat → Int32, k + d = 3 → (∀ i, i < k → as i = ((1 : Int32) <<< (f_n &&& 31)) - 1) → (∀ i, i < k → gs i = ((1 : Int32) <<< (f_n &&& 31)) - 1) → wY_init_160 post f_n f_p f_q f_solved f_token f_awaited (d + 1) (nI k) a_ownerOf a_moveMask as gs a_doomOf a_mark := by
  intro d
  induction d with
  | zero =>
    intro k as gs hk h1 h2
    obtain rfl : k = 3 := by omega
    exact br_t (nI_le (a := 3) (by omega) (by omega)) (h as gs h1 h2)
  | succ d ih =>
    intro k as gs hk h1 h2
    have cl : (nI k).toNatClampNeg = k := nI_clamp (by omega)
    have hin : vp_in (nI k) 3 := vp_in_nI (by omega) (by omega)
    refine br_f (nI_ge (b := 3) (by omega) (by omega)) ⟨hin, nm_r (e' := upd as k (((1 : Int32) <<< (f_n &&& 31)) - 1)) (by rw [cl]) ⟨hin, nm_r (e' := upd gs k (((1 : Int32) <<< (f_n &&& 31)) - 1)) (by rw [cl]) (nm_r (nI_1 k) (ih (k + 1) _ _ (by omega) (fun i hi => ?_) (fun i hi => ?_)))⟩⟩
    · by_cases e : i = k
      · subst e; rw [pk_us]
      · rw [pk_un e]; exact h1 i (by omega)
    · by_cases e : i = k
      · subst e; rw [pk_us]
      · rw [pk_un e]; exact h2 i (by omega)
theorem yy_init125 {post : SY → Prop} (h : ∀ ow su as gs : Nat → Int32, (∀ c, c < 8 → ow c = 0 ∧ su c = (1 : Int32) <<< (nI c &&& 31)) → (∀ i, i < 3 → as i = ((1 : Int32) <<< (f_n &&& 31)) - 1) → (∀ i, i < 3 → gs i = ((1 : Int32) <<< (f_n &&& 31)) - 1) → post (f_n, f_p, f_q, 0, -1, 0, ow, su, as, gs, a_doomOf, a_mark)) : ∀ d s, ∀ ow su : Nat → Int32, s + d = 8 → (∀ c, c < s → ow c = 0 ∧ su c = (1 : Int32) <<< (nI c &&& 31)) → wY_init_125 post f_n f_p f_q f_solved f_token f_awaited (d + 1) (nI s) ow su a_assumption a_guarantee a_doomOf a_mark := by
  intro d
  induction d with
  | zero =>
    intro s ow su hs h1
    obtain rfl : s = 8 := by omega
    exact br_t (nI_le (a := 8) (by omega) (by omega)) ⟨3 + 1, yy_init160 (fun as gs h2 h3 => h ow su as gs h1 h2 h3) 3 0 a_assumption a_guarantee (by omega) (fun i hi => by omega) (fun i hi => by omega)⟩
  | succ d ih =>
    intro s ow su hs h1
    have cl : (nI s).toNatClampNeg = s := nI_clamp (by omega)
    have hin : vp_in (nI s) 8 := vp_in_nI (by omega) (by omega)
    refine br_f (nI_ge (b := 8) (by omega) (by omega)) ⟨hin, nm_r (e' := upd ow s 0) (by rw [cl]) ⟨hin, nm_r (e' := upd su s ((1 : Int32) <<< (nI s &&& 31))) (by rw [cl]) (nm_r (nI_1 s) (ih (s + 1) _ _ (by omega) fun c hc => ?_))⟩⟩
    by_cases e : c = s
    · subst e; rw [pk_us, pk_us]; exact ⟨rfl, rfl⟩
    · rw [pk_un e, pk_un e]; exact h1 c (by omega)
end
theorem rl_init_g {n : Nat} (hn2 : 2 ≤ n) (hn : n ≤ 8) {fn : Int32} {ow su : Nat → Int32} (hfn : fn = nI n) (h : ∀ c, c < n → ow c = 0 ∧ su c = (1 : Int32) <<< (nI c &&& 31)) : gx_g n (fun _ => True) (fun c t => t = c) fn ow su := by
  refine ⟨hfn, hn2, hn, fun c hc => Or.inl ⟨(h c hc).1, True.intro⟩, fun c hc => ?_, fun c hc => ⟨c, hc, rfl⟩⟩
  rw [(h c hc).2]
  exact ms_bit hn hc
theorem rl_init_s {n k : Nat} (hn : n ≤ 8) (hk1 : 1 ≤ k) (hk3 : k ≤ 3) {fk : Int32} {as : Nat → Int32} (hfk : fk = nI k) (h : ∀ i, i < 3 → as i = ((1 : Int32) <<< (nI n &&& 31)) - 1) : gx_s n k (fun _ _ => True) fk as := by
  refine ⟨hfk, hk1, hk3, fun i hi => ?_⟩
  rw [h i (by omega)]
  exact ms_full hn
end
theorem i_vc0 (k0 : Int32) (k1 : Int32) (k2 : Int32) : wpX_init (fun u => wpY_init (fun v => i_Rel 3 u v) k0 k1 k2) k0 k1 k2 := by
  obtain ⟨n, hn2, hn8, hn⟩ := gm_clamp 2 8 (by omega) (by omega) k0
  obtain ⟨p, hp1, hp3, hp⟩ := gm_clamp 1 3 (by omega) (by omega) k1
  obtain ⟨q, hq1, hq3, hq⟩ := gm_clamp 1 3 (by omega) (by omega) k2
  unfold wpX_init
  refine xx_clamp 2 8 hn ?_
  refine xx_clamp 1 3 hp ?_
  refine xx_clamp 1 3 hq ?_
  refine nm_e ⟨n + 1, ?_⟩
  refine xx_init115 rfl hn8 (fun ow su as gs h1 h2 h3 => ?_) n 0 (fun _ => 0) (fun _ => 0) (by omega) (fun c hc => by omega)
  refine hn (fun r => wY_init_73 (fun v => i_Rel 3 _ v) k1 k2 r 0 0 0 0 0 0 (fun _ => 0) (fun _ => 0) (fun _ => 0) (fun _ => 0) (fun _ => 0) (fun _ => 0)) ?_
  refine hp (fun r => wY_init_96 (fun v => i_Rel 3 _ v) k2 r (nI n) 0 0 0 0 0 (fun _ => 0) (fun _ => 0) (fun _ => 0) (fun _ => 0) (fun _ => 0) (fun _ => 0)) ?_
  refine hq (fun r => ∃ n125 : Nat, wY_init_125 (fun v => i_Rel 3 _ v) (nI n) (nI p) r 0 0 0 n125 0 (fun _ => 0) (fun _ => 0) (fun _ => 0) (fun _ => 0) (fun _ => 0) (fun _ => 0)) ?_
  refine ⟨8 + 1, ?_⟩
  refine yy_init125 (fun ow' su' as' gs' h1' h2' h3' => ?_) 8 0 (fun _ => 0) (fun _ => 0) (by omega) (fun c hc => by omega)
  refine ⟨n, p, q, fun _ => True, fun c t => t = c, fun _ _ => True, fun _ _ => True, ?_⟩
  exact ⟨rl_init_g hn2 hn8 rfl h1, rl_init_s hn8 hp1 hp3 rfl h2, rl_init_s hn8 hq1 hq3 rfl h3, ms_full hn8, rl_init_g hn2 hn8 rfl (fun c hc => h1' c (by omega)), rl_init_s hn8 hp1 hp3 rfl h2', rl_init_s hn8 hq1 hq3 rfl h3', Iff.rfl, fun h => absurd rfl h, Or.inl ⟨rfl, rfl⟩⟩
end
section
/-! ===== small methods ===== -/
theorem yb_bad {A B : Prop} {v fn : Int32} {n : Nat} (h : v < 0 ∨ nI n ≤ v) (hfn : fn = nI n) (hA : A) : (v < 0 → A) ∧ (¬ v < 0 → ((v < fn → B) ∧ (¬ v < fn → A))) := by
  by_cases h0 : v < 0
  · exact br_t h0 hA
  · refine br_f h0 (br_f ?_ hA)
    rw [hfn]
    exact Int32.not_lt.mpr (h.resolve_left h0)
theorem yb_ok {A B C : Prop} {fn : Int32} {n s : Nat} (hn : n ≤ 8) (hs : s < n) (hfn : fn = nI n) (hB : B) : (nI s < 0 → A) ∧ (¬ nI s < 0 → ((nI s < fn → B) ∧ (¬ nI s < fn → C))) :=
  br_f (nI_pos (by omega)) (br_t (by rw [hfn]; exact nI_lt hs (by omega)) hB)
theorem rl_ix (v : Int32) {n : Nat} (hn : n ≤ 8) : (v < 0 ∨ nI n ≤ v) ∨ ∃ j : Nat, j < n ∧ v = nI j := by
  rcases pk_ix v (n := n) (by omega) with h | h | h
  · exact Or.inl (Or.inl h)
  · exact Or.inl (Or.inr h)
  · exact Or.inr h
section
variable {n p q : Nat} {EN : Nat → Prop} {E A G : Nat → Nat → Prop}
section
variable {f_n f_p f_q f_full f_solved f_won f_lost f_playing f_tokenState f_awaitedNumber : Int32}
variable {a_owners a_succ a_assume a_guar a_siegeLayers a_doomOf a_debtOf a_distOf : Nat → Int32}
theorem xx_isState0 {post : Int32 → Prop} {v : Int32} (h : v < 0 ∨ nI n ≤ v) (hfn : f_n = nI n) (hp : post 0) : wpX_isState post (f_n, f_p, f_q, f_full, f_solved, f_won, f_lost, f_playing, f_tokenState, f_awaitedNumber, a_owners, a_succ, a_assume, a_guar, a_siegeLayers, a_doomOf, a_debtOf, a_distOf) v := by
  by_cases h0 : v < 0
  · exact br_t h0 hp
  · exact br_f h0 (br_t (by rw [hfn]; exact h.resolve_left h0) hp)
theorem xx_isState1 {post : Int32 → Prop} {s : Nat} (hn : n ≤ 8) (hs : s < n) (hfn : f_n = nI n) (hp : post 1) : wpX_isState post (f_n, f_p, f_q, f_full, f_solved, f_won, f_lost, f_playing, f_tokenState, f_awaitedNumber, a_owners, a_succ, a_assume, a_guar, a_siegeLayers, a_doomOf, a_debtOf, a_distOf) (nI s) :=
  br_f (nI_pos (by omega)) (br_f (by rw [hfn]; exact nI_ge hs (by omega)) hp)
theorem xx_isSet00 {post : Int32 → Prop} {v : Int32} (h : v < 0 ∨ nI p ≤ v) (hfp : f_p = nI p) (hp : post 0) : wpX_isSet post (f_n, f_p, f_q, f_full, f_solved, f_won, f_lost, f_playing, f_tokenState, f_awaitedNumber, a_owners, a_succ, a_assume, a_guar, a_siegeLayers, a_doomOf, a_debtOf, a_distOf) 0 v := by
  by_cases h0 : v < 0
  · exact br_t rfl (br_t h0 hp)
  · exact br_t rfl (br_f h0 (br_t (by rw [hfp]; exact h.resolve_left h0) hp))
theorem xx_isSet01 {post : Int32 → Prop} {s : Nat} (hp3 : p ≤ 3) (hs : s < p) (hfp : f_p = nI p) (hp : post 1) : wpX_isSet post (f_n, f_p, f_q, f_full, f_solved, f_won, f_lost, f_playing, f_tokenState, f_awaitedNumber, a_owners, a_succ, a_assume, a_guar, a_siegeLayers, a_doomOf, a_debtOf, a_distOf) 0 (nI s) :=
  br_t rfl (br_f (nI_pos (by omega)) (br_f (by rw [hfp]; exact nI_ge hs (by omega)) hp))
theorem xx_isSet10 {post : Int32 → Prop} {v : Int32} (h : v < 0 ∨ nI q ≤ v) (hfq : f_q = nI q) (hp : post 0) : wpX_isSet post (f_n, f_p, f_q, f_full, f_solved, f_won, f_lost, f_playing, f_tokenState, f_awaitedNumber, a_owners, a_succ, a_assume, a_guar, a_siegeLayers, a_doomOf, a_debtOf, a_distOf) 1 v := by
  by_cases h0 : v < 0
  · exact br_f ms_ne10 (br_t rfl (br_t h0 hp))
  · exact br_f ms_ne10 (br_t rfl (br_f h0 (br_t (by rw [hfq]; exact h.resolve_left h0) hp)))
theorem xx_isSet11 {post : Int32 → Prop} {s : Nat} (hq3 : q ≤ 3) (hs : s < q) (hfq : f_q = nI q) (hp : post 1) : wpX_isSet post (f_n, f_p, f_q, f_full, f_solved, f_won, f_lost, f_playing, f_tokenState, f_awaitedNumber, a_owners, a_succ, a_assume, a_guar, a_siegeLayers, a_doomOf, a_debtOf, a_distOf) 1 (nI s) :=
  br_f ms_ne10 (br_t rfl (br_f (nI_pos (by omega)) (br_f (by rw [hfq]; exact nI_ge hs (by omega)) hp)))
theorem xx_isSet2 {post : Int32 → Prop} {k v : Int32} (h0 : ¬ k = 0) (h1 : ¬ k = 1) (hp : post 0) : wpX_isSet post (f_n, f_p, f_q, f_full, f_solved, f_won, f_lost, f_playing, f_tokenState, f_awaitedNumber, a_owners, a_succ, a_assume, a_guar, a_siegeLayers, a_doomOf, a_debtOf, a_distOf) k v :=
  br_f h0 (br_f h1 hp)
theorem xx_winnerOf {post : Int32 → Prop} {s : Nat} (hn : n ≤ 8) (hs : s < n) (hw : ms_of n f_won (fun t => ¬ gm_L n p q (gm_pre n EN E) A G (n * q) t)) (h0 : gm_L n p q (gm_pre n EN E) A G (n * q) s → post 0) (h1 : ¬ gm_L n p q (gm_pre n EN E) A G (n * q) s → post 1) : wpX_winnerOf post (f_n, f_p, f_q, f_full, f_solved, f_won, f_lost, f_playing, f_tokenState, f_awaitedNumber, a_owners, a_succ, a_assume, a_guar, a_siegeLayers, a_doomOf, a_debtOf, a_distOf) (nI s) := by
  unfold wpX_winnerOf
  dsimp only
  exact xx_has_s hn hs hw (fun h => br_f ms_ne10 (h1 h)) (fun h => br_t rfl (h0 (Classical.byContradiction h)))
end
theorem ms_mask {n : Nat} {full v : Int32} (hf : ms_of n full (fun _ => True)) : ms_of n (v &&& full) (fun t => bt v t = true) := by
  intro t ht
  rw [b_and, Bool.and_eq_true, hf t ht]
  exact ⟨fun h => ⟨h.2.1, h.1⟩, fun h => ⟨h.2, h.1, True.intro⟩⟩
theorem gx_g_put {fn : Int32} {ow su : Nat → Int32} {s : Nat} {o m : Int32} {M : Nat → Prop} (g : gx_g n EN E fn ow su) (hs : s < n) (ho : o = 0 ∨ o = 1) (hm : ms_of n m M) (hM : ∃ t, t < n ∧ M t) : gx_g n (fun c => (c = s ∧ o = 0) ∨ (c ≠ s ∧ EN c)) (fun c t => (c = s ∧ M t) ∨ (c ≠ s ∧ E c t)) fn (upd ow s o) (upd su s m) := by
  obtain ⟨h1, h2, h3, h4, h5, h6⟩ := g
  refine ⟨h1, h2, h3, fun c hc => ?_, fun c hc => ?_, fun c hc => ?_⟩
  · by_cases e : c = s
    · subst e
      rw [pk_us]
      rcases ho with ho | ho
      · exact Or.inl ⟨ho, Or.inl ⟨rfl, ho⟩⟩
      · refine Or.inr ⟨ho, fun h => ?_⟩
        rcases h with ⟨_, h⟩ | ⟨h, _⟩
        · exact ms_ne10 (ho.symm.trans h)
        · exact h rfl
    · rw [pk_un e]
      rcases h4 c hc with ⟨h7, h8⟩ | ⟨h7, h8⟩
      · exact Or.inl ⟨h7, Or.inr ⟨e, h8⟩⟩
      · refine Or.inr ⟨h7, fun h => ?_⟩
        rcases h with ⟨h, _⟩ | ⟨_, h⟩
        · exact e h
        · exact h8 h
  · by_cases e : c = s
    · subst e
      rw [pk_us]
      exact ms_cg (fun t _ => ⟨fun h => Or.inl ⟨rfl, h⟩, fun h => h.elim (fun h => h.2) (fun h => absurd rfl h.1)⟩) hm
    · rw [pk_un e]
      exact ms_cg (fun t _ => ⟨fun h => Or.inr ⟨e, h⟩, fun h => h.elim (fun h => absurd h.1 e) (fun h => h.2)⟩) (h5 c hc)
  · by_cases e : c = s
    · obtain ⟨t, ht, hMt⟩ := hM
      exact ⟨t, ht, Or.inl ⟨e, hMt⟩⟩
    · obtain ⟨t, ht, hEt⟩ := h6 c hc
      exact ⟨t, ht, Or.inr ⟨e, hEt⟩⟩
theorem gx_s_put {k : Nat} {fk : Int32} {as : Nat → Int32} {i : Nat} {m : Int32} {M : Nat → Prop} (g : gx_s n k A fk as) (hm : ms_of n m M) : gx_s n k (fun j t => (j = i ∧ M t) ∨ (j ≠ i ∧ A j t)) fk (upd as i m) := by
  obtain ⟨h1, h2, h3, h4⟩ := g
  refine ⟨h1, h2, h3, fun j hj => ?_⟩
  by_cases e : j = i
  · subst e
    rw [pk_us]
    exact ms_cg (fun t _ => ⟨fun h => Or.inl ⟨rfl, h⟩, fun h => h.elim (fun h => h.2) (fun h => absurd rfl h.1)⟩) hm
  · rw [pk_un e]
    exact ms_cg (fun t _ => ⟨fun h => Or.inr ⟨e, h⟩, fun h => h.elim (fun h => absurd h.1 e) (fun h => h.2)⟩) (h4 j hj)
section
variable {f_n f_p f_q f_full f_solved f_won f_lost f_playing f_tokenState f_awaitedNumber : Int32}
variable {a_owners a_succ a_assume a_guar a_siegeLayers a_doomOf a_debtOf a_distOf : Nat → Int32}
variable {g_n g_p g_q g_solved g_token g_awaited : Int32}
variable {b_ownerOf b_moveMask b_assumption b_guarantee b_doomOf b_mark : Nat → Int32}
/-- the same owners, moves and sets on both sides -/
theorem rl_own (R : rl_R n p q EN E A G f_n f_p f_q f_full f_solved f_won f_lost f_playing f_tokenState f_awaitedNumber a_owners a_succ a_assume a_guar a_siegeLayers a_doomOf a_debtOf a_distOf g_n g_p g_q g_solved g_token g_awaited b_ownerOf b_moveMask b_assumption b_guarantee b_doomOf b_mark) {c : Nat} (hc : c < n) : b_ownerOf c = a_owners c := by
  obtain ⟨gX, _, _, _, gY, _⟩ := R
  rcases gX.2.2.2.1 c hc with ⟨h1, h2⟩ | ⟨h1, h2⟩ <;> rcases gY.2.2.2.1 c hc with ⟨h3, h4⟩ | ⟨h3, h4⟩
  · rw [h1, h3]
  · exact absurd h2 h4
  · exact absurd h4 h2
  · rw [h1, h3]
theorem rl_mov (R : rl_R n p q EN E A G f_n f_p f_q f_full f_solved f_won f_lost f_playing f_tokenState f_awaitedNumber a_owners a_succ a_assume a_guar a_siegeLayers a_doomOf a_debtOf a_distOf g_n g_p g_q g_solved g_token g_awaited b_ownerOf b_moveMask b_assumption b_guarantee b_doomOf b_mark) {c : Nat} (hc : c < n) : b_moveMask c = a_succ c := by
  obtain ⟨gX, _, _, _, gY, _⟩ := R
  exact ms_eq (gY.2.2.2.2.1 c hc) (gX.2.2.2.2.1 c hc)
theorem rl_ass (R : rl_R n p q EN E A G f_n f_p f_q f_full f_solved f_won f_lost f_playing f_tokenState f_awaitedNumber a_owners a_succ a_assume a_guar a_siegeLayers a_doomOf a_debtOf a_distOf g_n g_p g_q g_solved g_token g_awaited b_ownerOf b_moveMask b_assumption b_guarantee b_doomOf b_mark) {i : Nat} (hi : i < p) : b_assumption i = a_assume i := by
  obtain ⟨_, aX, _, _, _, aY, _⟩ := R
  exact ms_eq (aY.2.2.2 i hi) (aX.2.2.2 i hi)
theorem rl_gua (R : rl_R n p q EN E A G f_n f_p f_q f_full f_solved f_won f_lost f_playing f_tokenState f_awaitedNumber a_owners a_succ a_assume a_guar a_siegeLayers a_doomOf a_debtOf a_distOf g_n g_p g_q g_solved g_token g_awaited b_ownerOf b_moveMask b_assumption b_guarantee b_doomOf b_mark) {i : Nat} (hi : i < q) : b_guarantee i = a_guar i := by
  obtain ⟨_, _, hX, _, _, _, hY, _⟩ := R
  exact ms_eq (hY.2.2.2 i hi) (hX.2.2.2 i hi)
theorem rl_full (R : rl_R n p q EN E A G f_n f_p f_q f_full f_solved f_won f_lost f_playing f_tokenState f_awaitedNumber a_owners a_succ a_assume a_guar a_siegeLayers a_doomOf a_debtOf a_distOf g_n g_p g_q g_solved g_token g_awaited b_ownerOf b_moveMask b_assumption b_guarantee b_doomOf b_mark) : ((1 : Int32) <<< (g_n &&& 31)) - 1 = f_full := by
  obtain ⟨_, _, _, hf, gY, _⟩ := R
  rw [gY.1]
  exact ms_eq (ms_full gY.2.2.1) hf
theorem rl_owner {k : Nat} (R : rl_R n p q EN E A G f_n f_p f_q f_full f_solved f_won f_lost f_playing f_tokenState f_awaitedNumber a_owners a_succ a_assume a_guar a_siegeLayers a_doomOf a_debtOf a_distOf g_n g_p g_q g_solved g_token g_awaited b_ownerOf b_moveMask b_assumption b_guarantee b_doomOf b_mark) (I : i_Rel k (f_n, f_p, f_q, f_full, f_solved, f_won, f_lost, f_playing, f_tokenState, f_awaitedNumber, a_owners, a_succ, a_assume, a_guar, a_siegeLayers, a_doomOf, a_debtOf, a_distOf) (g_n, g_p, g_q, g_solved, g_token, g_awaited, b_ownerOf, b_moveMask, b_assumption, b_guarantee, b_doomOf, b_mark)) (v1 : Int32) : wpX_owner (fun r => wpY_owner (fun r' => r' = r ∧ i_Rel (k + 4) (f_n, f_p, f_q, f_full, f_solved, f_won, f_lost, f_playing, f_tokenState, f_awaitedNumber, a_owners, a_succ, a_assume, a_guar, a_siegeLayers, a_doomOf, a_debtOf, a_distOf) (g_n, g_p, g_q, g_solved, g_token, g_awaited, b_ownerOf, b_moveMask, b_assumption, b_guarantee, b_doomOf, b_mark)) (g_n, g_p, g_q, g_solved, g_token, g_awaited, b_ownerOf, b_moveMask, b_assumption, b_guarantee, b_doomOf, b_mark) v1) (f_n, f_p, f_q, f_full, f_solved, f_won, f_lost, f_playing, f_tokenState, f_awaitedNumber, a_owners, a_succ, a_assume, a_guar, a_siegeLayers, a_doomOf, a_debtOf, a_distOf) v1 := by
  have hn8 : n ≤ 8 := R.1.2.2.1
  have hfn : f_n = nI n := R.1.1
  have hgn : g_n = nI n := R.2.2.2.2.1.1
  unfold wpX_owner
  dsimp only
  rcases rl_ix v1 hn8 with h | ⟨s, hs, rfl⟩
  · exact xx_isState0 h hfn (br_t rfl (yb_bad h hgn ⟨rfl, I⟩))
  · have cl : (nI s).toNatClampNeg = s := nI_clamp (by omega)
    have hin : vp_in (nI s) 8 := vp_in_nI (by omega) (by omega)
    refine xx_isState1 hn8 hs hfn (br_f ms_ne10 ⟨hin, yb_ok hn8 hs hgn ⟨hin, ?_, I⟩⟩)
    rw [cl]; exact rl_own R hs
theorem rl_moves {k : Nat} (R : rl_R n p q EN E A G f_n f_p f_q f_full f_solved f_won f_lost f_playing f_tokenState f_awaitedNumber a_owners a_succ a_assume a_guar a_siegeLayers a_doomOf a_debtOf a_distOf g_n g_p g_q g_solved g_token g_awaited b_ownerOf b_moveMask b_assumption b_guarantee b_doomOf b_mark) (I : i_Rel k (f_n, f_p, f_q, f_full, f_solved, f_won, f_lost, f_playing, f_tokenState, f_awaitedNumber, a_owners, a_succ, a_assume, a_guar, a_siegeLayers, a_doomOf, a_debtOf, a_distOf) (g_n, g_p, g_q, g_solved, g_token, g_awaited, b_ownerOf, b_moveMask, b_assumption, b_guarantee, b_doomOf, b_mark)) (v1 : Int32) : wpX_moves (fun r => wpY_moves (fun r' => r' = r ∧ i_Rel (k + 4) (f_n, f_p, f_q, f_full, f_solved, f_won, f_lost, f_playing, f_tokenState, f_awaitedNumber, a_owners, a_succ, a_assume, a_guar, a_siegeLayers, a_doomOf, a_debtOf, a_distOf) (g_n, g_p, g_q, g_solved, g_token, g_awaited, b_ownerOf, b_moveMask, b_assumption, b_guarantee, b_doomOf, b_mark)) (g_n, g_p, g_q, g_solved, g_token, g_awaited, b_ownerOf, b_moveMask, b_assumption, b_guarantee, b_doomOf, b_mark) v1) (f_n, f_p, f_q, f_full, f_solved, f_won, f_lost, f_playing, f_tokenState, f_awaitedNumber, a_owners, a_succ, a_assume, a_guar, a_siegeLayers, a_doomOf, a_debtOf, a_distOf) v1 := by
  have hn8 : n ≤ 8 := R.1.2.2.1
  have hfn : f_n = nI n := R.1.1
  have hgn : g_n = nI n := R.2.2.2.2.1.1
  unfold wpX_moves
  dsimp only
  rcases rl_ix v1 hn8 with h | ⟨s, hs, rfl⟩
  · exact xx_isState0 h hfn (br_t rfl (yb_bad h hgn ⟨rfl, I⟩))
  · have cl : (nI s).toNatClampNeg = s := nI_clamp (by omega)
    have hin : vp_in (nI s) 8 := vp_in_nI (by omega) (by omega)
    refine xx_isState1 hn8 hs hfn (br_f ms_ne10 ⟨hin, yb_ok hn8 hs hgn ⟨hin, ?_, I⟩⟩)
    rw [cl]; exact rl_mov R hs
theorem rl_members {k : Nat} (R : rl_R n p q EN E A G f_n f_p f_q f_full f_solved f_won f_lost f_playing f_tokenState f_awaitedNumber a_owners a_succ a_assume a_guar a_siegeLayers a_doomOf a_debtOf a_distOf g_n g_p g_q g_solved g_token g_awaited b_ownerOf b_moveMask b_assumption b_guarantee b_doomOf b_mark) (I : i_Rel k (f_n, f_p, f_q, f_full, f_solved, f_won, f_lost, f_playing, f_tokenState, f_awaitedNumber, a_owners, a_succ, a_assume, a_guar, a_siegeLayers, a_doomOf, a_debtOf, a_distOf) (g_n, g_p, g_q, g_solved, g_token, g_awaited, b_ownerOf, b_moveMask, b_assumption, b_guarantee, b_doomOf, b_mark)) (v1 v2 : Int32) : wpX_members (fun r => wpY_members (fun r' => r' = r ∧ i_Rel (k + 4) (f_n, f_p, f_q, f_full, f_solved, f_won, f_lost, f_playing, f_tokenState, f_awaitedNumber, a_owners, a_succ, a_assume, a_guar, a_siegeLayers, a_doomOf, a_debtOf, a_distOf) (g_n, g_p, g_q, g_solved, g_token, g_awaited, b_ownerOf, b_moveMask, b_assumption, b_guarantee, b_doomOf, b_mark)) (g_n, g_p, g_q, g_solved, g_token, g_awaited, b_ownerOf, b_moveMask, b_assumption, b_guarantee, b_doomOf, b_mark) v1 v2) (f_n, f_p, f_q, f_full, f_solved, f_won, f_lost, f_playing, f_tokenState, f_awaitedNumber, a_owners, a_succ, a_assume, a_guar, a_siegeLayers, a_doomOf, a_debtOf, a_distOf) v1 v2 := by
  have hfp : f_p = nI p := R.2.1.1
  have hp3 : p ≤ 3 := R.2.1.2.2.1
  have hfq : f_q = nI q := R.2.2.1.1
  have hq3 : q ≤ 3 := R.2.2.1.2.2.1
  have hgp : g_p = nI p := R.2.2.2.2.2.1.1
  have hgq : g_q = nI q := R.2.2.2.2.2.2.1.1
  unfold wpX_members
  dsimp only
  by_cases h0 : v1 = 0
  · subst h0
    rcases rl_ix v2 (n := p) (by omega) with h | ⟨i, hi, rfl⟩
    · refine xx_isSet00 h hfp (br_t rfl (br_t rfl ?_))
      by_cases h2 : v2 < 0
      · exact br_t h2 ⟨rfl, I⟩
      · exact br_f h2 (br_t rfl (br_f (by rw [hgp]; exact Int32.not_lt.mpr (h.resolve_left h2)) ⟨rfl, I⟩))
    · have cl : (nI i).toNatClampNeg = i := nI_clamp (by omega)
      have hin : vp_in (nI i) 3 := vp_in_nI (by omega) (by omega)
      refine xx_isSet01 hp3 hi hfp (br_f ms_ne10 (br_t rfl ⟨hin, br_t rfl (br_f (nI_pos (by omega)) (br_t rfl (br_t (by rw [hgp]; exact nI_lt hi (by omega)) (br_t rfl ⟨hin, ?_, I⟩))))⟩))
      rw [cl]; exact rl_ass R hi
  · by_cases h1 : v1 = 1
    · subst h1
      rcases rl_ix v2 (n := q) (by omega) with h | ⟨i, hi, rfl⟩
      · refine xx_isSet10 h hfq (br_t rfl (br_f h0 (br_t rfl ?_)))
        by_cases h2 : v2 < 0
        · exact br_t h2 ⟨rfl, I⟩
        · exact br_f h2 (br_f h0 (br_f (by rw [hgq]; exact Int32.not_lt.mpr (h.resolve_left h2)) ⟨rfl, I⟩))
      · have cl : (nI i).toNatClampNeg = i := nI_clamp (by omega)
        have hin : vp_in (nI i) 3 := vp_in_nI (by omega) (by omega)
        refine xx_isSet11 hq3 hi hfq (br_f ms_ne10 (br_f h0 ⟨hin, br_f h0 (br_t rfl (br_f (nI_pos (by omega)) (br_f h0 (br_t (by rw [hgq]; exact nI_lt hi (by omega)) (br_f h0 ⟨hin, ?_, I⟩)))))⟩))
        rw [cl]; exact rl_gua R hi
    · exact xx_isSet2 h0 h1 (br_t rfl (br_f h0 (br_f h1 ⟨rfl, I⟩)))
theorem rl_setState {k : Nat} (R : rl_R n p q EN E A G f_n f_p f_q f_full f_solved f_won f_lost f_playing f_tokenState f_awaitedNumber a_owners a_succ a_assume a_guar a_siegeLayers a_doomOf a_debtOf a_distOf g_n g_p g_q g_solved g_token g_awaited b_ownerOf b_moveMask b_assumption b_guarantee b_doomOf b_mark) (I : i_Rel k (f_n, f_p, f_q, f_full, f_solved, f_won, f_lost, f_playing, f_tokenState, f_awaitedNumber, a_owners, a_succ, a_assume, a_guar, a_siegeLayers, a_doomOf, a_debtOf, a_distOf) (g_n, g_p, g_q, g_solved, g_token, g_awaited, b_ownerOf, b_moveMask, b_assumption, b_guarantee, b_doomOf, b_mark)) (v1 v2 v3 : Int32) : wpX_setState (fun r u' => wpY_setState (fun r' v' => r' = r ∧ i_Rel (k + 4) u' v') (g_n, g_p, g_q, g_solved, g_token, g_awaited, b_ownerOf, b_moveMask, b_assumption, b_guarantee, b_doomOf, b_mark) v1 v2 v3) (f_n, f_p, f_q, f_full, f_solved, f_won, f_lost, f_playing, f_tokenState, f_awaitedNumber, a_owners, a_succ, a_assume, a_guar, a_siegeLayers, a_doomOf, a_debtOf, a_distOf) v1 v2 v3 := by
  have hn8 : n ≤ 8 := R.1.2.2.1
  have hfn : f_n = nI n := R.1.1
  have hgn : g_n = nI n := R.2.2.2.2.1.1
  have hfull := rl_full R
  unfold wpX_setState
  dsimp only
  rcases rl_ix v1 hn8 with h | ⟨s, hs, rfl⟩
  · exact xx_isState0 h hfn (br_t rfl (yb_bad h hgn ⟨rfl, I⟩))
  · have cl : (nI s).toNatClampNeg = s := nI_clamp (by omega)
    have hin : vp_in (nI s) 8 := vp_in_nI (by omega) (by omega)
    refine xx_isState1 hn8 hs hfn (br_f ms_ne10 ?_)
    by_cases ho : v2 = 0 ∨ v2 = 1
    · have done : ∀ m : Int32, ∀ M : Nat → Prop, ms_of n m M → (∃ t, t < n ∧ M t) → i_Rel (k + 4) (f_n, f_p, f_q, f_full, 0, f_won, f_lost, 0, f_tokenState, f_awaitedNumber, upd a_owners s v2, upd a_succ s m, a_assume, a_guar, a_siegeLayers, a_doomOf, a_debtOf, a_distOf) (g_n, g_p, g_q, 0, -1, g_awaited, upd b_ownerOf s v2, upd b_moveMask s m, b_assumption, b_guarantee, b_doomOf, b_mark) := by
        intro m M hm hM
        obtain ⟨gX, aX, hX, hf, gY, aY, hY, _⟩ := R
        exact ⟨n, p, q, _, _, A, G, gx_g_put gX hs ho hm hM, aX, hX, hf, gx_g_put gY hs ho hm hM, aY, hY, Iff.rfl, fun h => absurd rfl h, Or.inl ⟨rfl, rfl⟩⟩
      have h21 : wX_setState_21 (fun r u' => wpY_setState (fun r' v' => r' = r ∧ i_Rel (k + 4) u' v') (g_n, g_p, g_q, g_solved, g_token, g_awaited, b_ownerOf, b_moveMask, b_assumption, b_guarantee, b_doomOf, b_mark) (nI s) v2 v3) (nI s) v2 v3 f_n f_p f_q f_full f_solved f_won f_lost f_playing f_tokenState f_awaitedNumber a_owners a_succ a_assume a_guar a_siegeLayers a_doomOf a_debtOf a_distOf := by
        have hmask := ms_mask (v := v3) R.2.2.2.1
        by_cases hz : v3 &&& f_full = 0
        · refine nm_e ⟨hin, nm_r (e' := upd a_owners s v2) (by rw [cl]) (br_t hz ⟨hin, nm_r (e' := upd a_succ s ((1 : Int32) <<< (nI s &&& 31))) (by rw [cl]) ?_⟩)⟩
          have h25 : wY_setState_25 (fun r' v' => r' = 1 ∧ i_Rel (k + 4) (f_n, f_p, f_q, f_full, 0, f_won, f_lost, 0, f_tokenState, f_awaitedNumber, upd a_owners s v2, upd a_succ s ((1 : Int32) <<< (nI s &&& 31)), a_assume, a_guar, a_siegeLayers, a_doomOf, a_debtOf, a_distOf) v') (nI s) v2 v3 g_n g_p g_q g_solved g_token g_awaited b_ownerOf b_moveMask b_assumption b_guarantee b_doomOf b_mark := nm_r (e' := v3 &&& f_full) (by rw [hfull]) ⟨hin, nm_r (e' := upd b_ownerOf s v2) (by rw [cl]) (br_t hz ⟨hin, nm_r (e' := upd b_moveMask s ((1 : Int32) <<< (nI s &&& 31))) (by rw [cl]) ⟨rfl, done _ _ (ms_bit hn8 hs) ⟨s, hs, rfl⟩⟩⟩)⟩
          refine yb_ok hn8 hs hgn ?_
          rcases ho with ho | ho
          · exact br_t ho h25
          · exact br_f (by rw [ho]; exact ms_ne10) (br_t ho h25)
        · refine nm_e ⟨hin, nm_r (e' := upd a_owners s v2) (by rw [cl]) (br_f hz ⟨hin, nm_r (e' := upd a_succ s (v3 &&& f_full)) (by rw [cl]) ?_⟩)⟩
          have hne : ∃ t, t < n ∧ bt v3 t = true := by
            refine Classical.byContradiction fun hh => hz ((ms_z hn8 hmask).2 fun t ht h1 => hh ⟨t, ht, h1⟩)
          have h25 : wY_setState_25 (fun r' v' => r' = 1 ∧ i_Rel (k + 4) (f_n, f_p, f_q, f_full, 0, f_won, f_lost, 0, f_tokenState, f_awaitedNumber, upd a_owners s v2, upd a_succ s (v3 &&& f_full), a_assume, a_guar, a_siegeLayers, a_doomOf, a_debtOf, a_distOf) v') (nI s) v2 v3 g_n g_p g_q g_solved g_token g_awaited b_ownerOf b_moveMask b_assumption b_guarantee b_doomOf b_mark := nm_r (e' := v3 &&& f_full) (by rw [hfull]) ⟨hin, nm_r (e' := upd b_ownerOf s v2) (by rw [cl]) (br_f hz ⟨hin, nm_r (e' := upd b_moveMask s (v3 &&& f_full)) (by rw [cl]) ⟨rfl, done _ _ hmask hne⟩⟩)⟩
          refine yb_ok hn8 hs hgn ?_
          rcases ho with ho | ho
          · exact br_t ho h25
          · exact br_f (by rw [ho]; exact ms_ne10) (br_t ho h25)
      rcases ho with ho | ho
      · exact br_t ho h21
      · exact br_f (by rw [ho]; exact ms_ne10) (br_t ho h21)
    · have h0 : ¬ v2 = 0 := fun h => ho (Or.inl h)
      have h1 : ¬ v2 = 1 := fun h => ho (Or.inr h)
      exact br_f h0 (br_f h1 (yb_ok hn8 hs hgn (br_f h0 (br_f h1 ⟨rfl, I⟩))))
theorem rl_setMembers {k : Nat} (R : rl_R n p q EN E A G f_n f_p f_q f_full f_solved f_won f_lost f_playing f_tokenState f_awaitedNumber a_owners a_succ a_assume a_guar a_siegeLayers a_doomOf a_debtOf a_distOf g_n g_p g_q g_solved g_token g_awaited b_ownerOf b_moveMask b_assumption b_guarantee b_doomOf b_mark) (I : i_Rel k (f_n, f_p, f_q, f_full, f_solved, f_won, f_lost, f_playing, f_tokenState, f_awaitedNumber, a_owners, a_succ, a_assume, a_guar, a_siegeLayers, a_doomOf, a_debtOf, a_distOf) (g_n, g_p, g_q, g_solved, g_token, g_awaited, b_ownerOf, b_moveMask, b_assumption, b_guarantee, b_doomOf, b_mark)) (v1 v2 v3 : Int32) : wpX_setMembers (fun r u' => wpY_setMembers (fun r' v' => r' = r ∧ i_Rel (k + 4) u' v') (g_n, g_p, g_q, g_solved, g_token, g_awaited, b_ownerOf, b_moveMask, b_assumption, b_guarantee, b_doomOf, b_mark) v1 v2 v3) (f_n, f_p, f_q, f_full, f_solved, f_won, f_lost, f_playing, f_tokenState, f_awaitedNumber, a_owners, a_succ, a_assume, a_guar, a_siegeLayers, a_doomOf, a_debtOf, a_distOf) v1 v2 v3 := by
  have hfp : f_p = nI p := R.2.1.1
  have hp3 : p ≤ 3 := R.2.1.2.2.1
  have hfq : f_q = nI q := R.2.2.1.1
  have hq3 : q ≤ 3 := R.2.2.1.2.2.1
  have hgp : g_p = nI p := R.2.2.2.2.2.1.1
  have hgq : g_q = nI q := R.2.2.2.2.2.2.1.1
  have hfull := rl_full R
  have hmask := ms_mask (v := v3) R.2.2.2.1
  unfold wpX_setMembers
  dsimp only
  by_cases h0 : v1 = 0
  · subst h0
    rcases rl_ix v2 (n := p) (by omega) with h | ⟨i, hi, rfl⟩
    · refine xx_isSet00 h hfp (br_t rfl (br_t rfl ?_))
      by_cases h2 : v2 < 0
      · exact br_t h2 ⟨rfl, I⟩
      · exact br_f h2 (br_t rfl (br_f (by rw [hgp]; exact Int32.not_lt.mpr (h.resolve_left h2)) ⟨rfl, I⟩))
    · have cl : (nI i).toNatClampNeg = i := nI_clamp (by omega)
      have hin : vp_in (nI i) 3 := vp_in_nI (by omega) (by omega)
      refine xx_isSet01 hp3 hi hfp (br_f ms_ne10 (br_t rfl ⟨hin, nm_r (e' := upd a_assume i (v3 &&& f_full)) (by rw [cl]) ?_⟩))
      have done : i_Rel (k + 4) (f_n, f_p, f_q, f_full, 0, f_won, f_lost, 0, f_tokenState, f_awaitedNumber, a_owners, a_succ, upd a_assume i (v3 &&& f_full), a_guar, a_siegeLayers, a_doomOf, a_debtOf, a_distOf) (g_n, g_p, g_q, 0, -1, g_awaited, b_ownerOf, b_moveMask, upd b_assumption i (v3 &&& f_full), b_guarantee, b_doomOf, b_mark) := by
        obtain ⟨gX, aX, hX, hf, gY, aY, hY, _⟩ := R
        exact ⟨n, p, q, EN, E, _, G, gX, gx_s_put aX hmask, hX, hf, gY, gx_s_put aY hmask, hY, Iff.rfl, fun h => absurd rfl h, Or.inl ⟨rfl, rfl⟩⟩
      exact br_t rfl (br_f (nI_pos (by omega)) (br_t rfl (br_t (by rw [hgp]; exact nI_lt hi (by omega)) (nm_r (e' := v3 &&& f_full) (by rw [hfull]) (br_t rfl ⟨hin, nm_r (e' := upd b_assumption i (v3 &&& f_full)) (by rw [cl]) ⟨rfl, done⟩⟩)))))
  · by_cases h1 : v1 = 1
    · subst h1
      rcases rl_ix v2 (n := q) (by omega) with h | ⟨i, hi, rfl⟩
      · refine xx_isSet10 h hfq (br_t rfl (br_f h0 (br_t rfl ?_)))
        by_cases h2 : v2 < 0
        · exact br_t h2 ⟨rfl, I⟩
        · exact br_f h2 (br_f h0 (br_f (by rw [hgq]; exact Int32.not_lt.mpr (h.resolve_left h2)) ⟨rfl, I⟩))
      · have cl : (nI i).toNatClampNeg = i := nI_clamp (by omega)
        have hin : vp_in (nI i) 3 := vp_in_nI (by omega) (by omega)
        refine xx_isSet11 hq3 hi hfq (br_f ms_ne10 (br_f h0 ⟨hin, nm_r (e' := upd a_guar i (v3 &&& f_full)) (by rw [cl]) ?_⟩))
        have done : i_Rel (k + 4) (f_n, f_p, f_q, f_full, 0, f_won, f_lost, 0, f_tokenState, f_awaitedNumber, a_owners, a_succ, a_assume, upd a_guar i (v3 &&& f_full), a_siegeLayers, a_doomOf, a_debtOf, a_distOf) (g_n, g_p, g_q, 0, -1, g_awaited, b_ownerOf, b_moveMask, b_assumption, upd b_guarantee i (v3 &&& f_full), b_doomOf, b_mark) := by
          obtain ⟨gX, aX, hX, hf, gY, aY, hY, _⟩ := R
          exact ⟨n, p, q, EN, E, A, _, gX, aX, gx_s_put hX hmask, hf, gY, aY, gx_s_put hY hmask, Iff.rfl, fun h => absurd rfl h, Or.inl ⟨rfl, rfl⟩⟩
        exact br_f h0 (br_t rfl (br_f (nI_pos (by omega)) (br_f h0 (br_t (by rw [hgq]; exact nI_lt hi (by omega)) (nm_r (e' := v3 &&& f_full) (by rw [hfull]) (br_f h0 ⟨hin, nm_r (e' := upd b_guarantee i (v3 &&& f_full)) (by rw [cl]) ⟨rfl, done⟩⟩))))))
    · exact xx_isSet2 h0 h1 (br_t rfl (br_f h0 (br_f h1 ⟨rfl, I⟩)))
theorem rl_token {k : Nat} (R : rl_R n p q EN E A G f_n f_p f_q f_full f_solved f_won f_lost f_playing f_tokenState f_awaitedNumber a_owners a_succ a_assume a_guar a_siegeLayers a_doomOf a_debtOf a_distOf g_n g_p g_q g_solved g_token g_awaited b_ownerOf b_moveMask b_assumption b_guarantee b_doomOf b_mark) (I : i_Rel k (f_n, f_p, f_q, f_full, f_solved, f_won, f_lost, f_playing, f_tokenState, f_awaitedNumber, a_owners, a_succ, a_assume, a_guar, a_siegeLayers, a_doomOf, a_debtOf, a_distOf) (g_n, g_p, g_q, g_solved, g_token, g_awaited, b_ownerOf, b_moveMask, b_assumption, b_guarantee, b_doomOf, b_mark)) : wpX_token (fun r => wpY_token (fun r' => r' = r ∧ i_Rel (k + 4) (f_n, f_p, f_q, f_full, f_solved, f_won, f_lost, f_playing, f_tokenState, f_awaitedNumber, a_owners, a_succ, a_assume, a_guar, a_siegeLayers, a_doomOf, a_debtOf, a_distOf) (g_n, g_p, g_q, g_solved, g_token, g_awaited, b_ownerOf, b_moveMask, b_assumption, b_guarantee, b_doomOf, b_mark)) (g_n, g_p, g_q, g_solved, g_token, g_awaited, b_ownerOf, b_moveMask, b_assumption, b_guarantee, b_doomOf, b_mark)) (f_n, f_p, f_q, f_full, f_solved, f_won, f_lost, f_playing, f_tokenState, f_awaitedNumber, a_owners, a_succ, a_assume, a_guar, a_siegeLayers, a_doomOf, a_debtOf, a_distOf) := by
  have hn8 : n ≤ 8 := R.1.2.2.1
  rcases R.2.2.2.2.2.2.2.2.2 with ⟨h1, h2⟩ | ⟨h1, _, s, m, hs, h3, h4, _⟩
  · exact br_t h1 (br_f (by rw [h2]; exact gy_m1) ⟨rfl, I⟩)
  · exact br_f h1 (br_t (by rw [h4]; exact nI_pos' (by omega)) ⟨h4.trans h3.symm, I⟩)
theorem rl_awaited {k : Nat} (R : rl_R n p q EN E A G f_n f_p f_q f_full f_solved f_won f_lost f_playing f_tokenState f_awaitedNumber a_owners a_succ a_assume a_guar a_siegeLayers a_doomOf a_debtOf a_distOf g_n g_p g_q g_solved g_token g_awaited b_ownerOf b_moveMask b_assumption b_guarantee b_doomOf b_mark) (I : i_Rel k (f_n, f_p, f_q, f_full, f_solved, f_won, f_lost, f_playing, f_tokenState, f_awaitedNumber, a_owners, a_succ, a_assume, a_guar, a_siegeLayers, a_doomOf, a_debtOf, a_distOf) (g_n, g_p, g_q, g_solved, g_token, g_awaited, b_ownerOf, b_moveMask, b_assumption, b_guarantee, b_doomOf, b_mark)) : wpX_awaited (fun r => wpY_awaited (fun r' => r' = r ∧ i_Rel (k + 4) (f_n, f_p, f_q, f_full, f_solved, f_won, f_lost, f_playing, f_tokenState, f_awaitedNumber, a_owners, a_succ, a_assume, a_guar, a_siegeLayers, a_doomOf, a_debtOf, a_distOf) (g_n, g_p, g_q, g_solved, g_token, g_awaited, b_ownerOf, b_moveMask, b_assumption, b_guarantee, b_doomOf, b_mark)) (g_n, g_p, g_q, g_solved, g_token, g_awaited, b_ownerOf, b_moveMask, b_assumption, b_guarantee, b_doomOf, b_mark)) (f_n, f_p, f_q, f_full, f_solved, f_won, f_lost, f_playing, f_tokenState, f_awaitedNumber, a_owners, a_succ, a_assume, a_guar, a_siegeLayers, a_doomOf, a_debtOf, a_distOf) := by
  have hn8 : n ≤ 8 := R.1.2.2.1
  rcases R.2.2.2.2.2.2.2.2.2 with ⟨h1, h2⟩ | ⟨h1, _, s, m, hs, h3, h4, h5, h6, _⟩
  · exact br_t h1 (br_f (by rw [h2]; exact gy_m1) ⟨rfl, I⟩)
  · exact br_f h1 (br_t (by rw [h4]; exact nI_pos' (by omega)) ⟨h6.trans h5.symm, I⟩)
theorem rl_winner {k : Nat} (R : rl_R n p q EN E A G f_n f_p f_q f_full f_solved f_won f_lost f_playing f_tokenState f_awaitedNumber a_owners a_succ a_assume a_guar a_siegeLayers a_doomOf a_debtOf a_distOf g_n g_p g_q g_solved g_token g_awaited b_ownerOf b_moveMask b_assumption b_guarantee b_doomOf b_mark) (I : i_Rel k (f_n, f_p, f_q, f_full, f_solved, f_won, f_lost, f_playing, f_tokenState, f_awaitedNumber, a_owners, a_succ, a_assume, a_guar, a_siegeLayers, a_doomOf, a_debtOf, a_distOf) (g_n, g_p, g_q, g_solved, g_token, g_awaited, b_ownerOf, b_moveMask, b_assumption, b_guarantee, b_doomOf, b_mark)) (v1 : Int32) : wpX_winner (fun r => wpY_winner (fun r' => r' = r ∧ i_Rel (k + 4) (f_n, f_p, f_q, f_full, f_solved, f_won, f_lost, f_playing, f_tokenState, f_awaitedNumber, a_owners, a_succ, a_assume, a_guar, a_siegeLayers, a_doomOf, a_debtOf, a_distOf) (g_n, g_p, g_q, g_solved, g_token, g_awaited, b_ownerOf, b_moveMask, b_assumption, b_guarantee, b_doomOf, b_mark)) (g_n, g_p, g_q, g_solved, g_token, g_awaited, b_ownerOf, b_moveMask, b_assumption, b_guarantee, b_doomOf, b_mark) v1) (f_n, f_p, f_q, f_full, f_solved, f_won, f_lost, f_playing, f_tokenState, f_awaitedNumber, a_owners, a_succ, a_assume, a_guar, a_siegeLayers, a_doomOf, a_debtOf, a_distOf) v1 := by
  have hn8 : n ≤ 8 := R.1.2.2.1
  have hfn : f_n = nI n := R.1.1
  have hgn : g_n = nI n := R.2.2.2.2.1.1
  have hsv : f_solved = 0 ↔ g_solved = 0 := R.2.2.2.2.2.2.2.1
  have hnq := gm_nq hn8 R.2.2.1.2.2.1
  unfold wpX_winner
  dsimp only
  rcases rl_ix v1 hn8 with h | ⟨s, hs, rfl⟩
  · exact xx_isState0 h hfn (br_t rfl (yb_bad h hgn ⟨rfl, I⟩))
  · refine xx_isState1 hn8 hs hfn (br_f ms_ne10 ?_)
    by_cases h0 : f_solved = 0
    · exact br_t h0 (yb_ok hn8 hs hgn (br_t (hsv.1 h0) ⟨rfl, I⟩))
    · obtain ⟨sX, sY⟩ := R.2.2.2.2.2.2.2.2.1 h0
      refine br_f h0 (xx_winnerOf hn8 hs sX.1 (fun hL => ?_) (fun hL => ?_))
      · exact yy_winner hgn hn8 hnq sY (fun h => h0 (hsv.2 h)) hs (fun _ => ⟨rfl, I⟩) (fun h => absurd hL h)
      · exact yy_winner hgn hn8 hnq sY (fun h => h0 (hsv.2 h)) hs (fun h => absurd h hL) (fun _ => ⟨rfl, I⟩)
theorem rl_doom {k : Nat} (R : rl_R n p q EN E A G f_n f_p f_q f_full f_solved f_won f_lost f_playing f_tokenState f_awaitedNumber a_owners a_succ a_assume a_guar a_siegeLayers a_doomOf a_debtOf a_distOf g_n g_p g_q g_solved g_token g_awaited b_ownerOf b_moveMask b_assumption b_guarantee b_doomOf b_mark) (I : i_Rel k (f_n, f_p, f_q, f_full, f_solved, f_won, f_lost, f_playing, f_tokenState, f_awaitedNumber, a_owners, a_succ, a_assume, a_guar, a_siegeLayers, a_doomOf, a_debtOf, a_distOf) (g_n, g_p, g_q, g_solved, g_token, g_awaited, b_ownerOf, b_moveMask, b_assumption, b_guarantee, b_doomOf, b_mark)) (v1 : Int32) : wpX_doom (fun r => wpY_doom (fun r' => r' = r ∧ i_Rel (k + 4) (f_n, f_p, f_q, f_full, f_solved, f_won, f_lost, f_playing, f_tokenState, f_awaitedNumber, a_owners, a_succ, a_assume, a_guar, a_siegeLayers, a_doomOf, a_debtOf, a_distOf) (g_n, g_p, g_q, g_solved, g_token, g_awaited, b_ownerOf, b_moveMask, b_assumption, b_guarantee, b_doomOf, b_mark)) (g_n, g_p, g_q, g_solved, g_token, g_awaited, b_ownerOf, b_moveMask, b_assumption, b_guarantee, b_doomOf, b_mark) v1) (f_n, f_p, f_q, f_full, f_solved, f_won, f_lost, f_playing, f_tokenState, f_awaitedNumber, a_owners, a_succ, a_assume, a_guar, a_siegeLayers, a_doomOf, a_debtOf, a_distOf) v1 := by
  have hn8 : n ≤ 8 := R.1.2.2.1
  have hfn : f_n = nI n := R.1.1
  have hgn : g_n = nI n := R.2.2.2.2.1.1
  have hsv : f_solved = 0 ↔ g_solved = 0 := R.2.2.2.2.2.2.2.1
  have hnq := gm_nq hn8 R.2.2.1.2.2.1
  unfold wpX_doom
  dsimp only
  rcases rl_ix v1 hn8 with h | ⟨s, hs, rfl⟩
  · exact xx_isState0 h hfn (br_t rfl (yb_bad h hgn ⟨rfl, I⟩))
  · refine xx_isState1 hn8 hs hfn (br_f ms_ne10 ?_)
    have cl : (nI s).toNatClampNeg = s := nI_clamp (by omega)
    have hin : vp_in (nI s) 8 := vp_in_nI (by omega) (by omega)
    by_cases h0 : f_solved = 0
    · exact br_t h0 (yb_ok hn8 hs hgn (br_t (hsv.1 h0) ⟨rfl, I⟩))
    · obtain ⟨sX, sY⟩ := R.2.2.2.2.2.2.2.2.1 h0
      have h0' : ¬ g_solved = 0 := fun h => h0 (hsv.2 h)
      refine br_f h0 (xx_has_s hn8 hs sX.1 (fun hW => br_f ms_ne10 (yb_ok hn8 hs hgn (br_f h0' ⟨hin, ?_⟩))) (fun hW => br_t rfl ⟨hin, yb_ok hn8 hs hgn (br_f h0' ⟨hin, ?_⟩)⟩))
      · rw [cl]
        rcases gy_pos sY hnq hs with ⟨hL, _⟩ | ⟨_, h1, _⟩
        · exact absurd hL hW
        · exact br_f h1 ⟨rfl, I⟩
      · rw [cl]
        obtain ⟨z, hz, h1, h2, h3⟩ := gy_lost sY hs (Classical.byContradiction hW)
        rw [h3, sX.2.2.1 s hs z hz h1 h2]
        exact br_t (nI_pos' (by omega)) ⟨hin, rfl, I⟩
theorem rl_mark {k : Nat} {mk : Nat → Int32} (R : rl_R n p q EN E A G f_n f_p f_q f_full f_solved f_won f_lost f_playing f_tokenState f_awaitedNumber a_owners a_succ a_assume a_guar a_siegeLayers a_doomOf a_debtOf a_distOf g_n g_p g_q g_solved g_token g_awaited b_ownerOf b_moveMask b_assumption b_guarantee b_doomOf b_mark) : i_Rel (k + 4) (f_n, f_p, f_q, f_full, f_solved, f_won, f_lost, f_playing, f_tokenState, f_awaitedNumber, a_owners, a_succ, a_assume, a_guar, a_siegeLayers, a_doomOf, a_debtOf, a_distOf) (g_n, g_p, g_q, g_solved, g_token, g_awaited, b_ownerOf, b_moveMask, b_assumption, b_guarantee, b_doomOf, mk) := ⟨n, p, q, EN, E, A, G, R⟩
theorem rl_debt {k : Nat} (R : rl_R n p q EN E A G f_n f_p f_q f_full f_solved f_won f_lost f_playing f_tokenState f_awaitedNumber a_owners a_succ a_assume a_guar a_siegeLayers a_doomOf a_debtOf a_distOf g_n g_p g_q g_solved g_token g_awaited b_ownerOf b_moveMask b_assumption b_guarantee b_doomOf b_mark) (I : i_Rel k (f_n, f_p, f_q, f_full, f_solved, f_won, f_lost, f_playing, f_tokenState, f_awaitedNumber, a_owners, a_succ, a_assume, a_guar, a_siegeLayers, a_doomOf, a_debtOf, a_distOf) (g_n, g_p, g_q, g_solved, g_token, g_awaited, b_ownerOf, b_moveMask, b_assumption, b_guarantee, b_doomOf, b_mark)) (v1 v2 : Int32) : wpX_debt (fun r => wpY_debt (fun r' v' => r' = r ∧ i_Rel (k + 4) (f_n, f_p, f_q, f_full, f_solved, f_won, f_lost, f_playing, f_tokenState, f_awaitedNumber, a_owners, a_succ, a_assume, a_guar, a_siegeLayers, a_doomOf, a_debtOf, a_distOf) v') (g_n, g_p, g_q, g_solved, g_token, g_awaited, b_ownerOf, b_moveMask, b_assumption, b_guarantee, b_doomOf, b_mark) v1 v2) (f_n, f_p, f_q, f_full, f_solved, f_won, f_lost, f_playing, f_tokenState, f_awaitedNumber, a_owners, a_succ, a_assume, a_guar, a_siegeLayers, a_doomOf, a_debtOf, a_distOf) v1 v2 := by
  have hn8 : n ≤ 8 := R.1.2.2.1
  have hfn : f_n = nI n := R.1.1
  have hgn : g_n = nI n := R.2.2.2.2.1.1
  have hsv : f_solved = 0 ↔ g_solved = 0 := R.2.2.2.2.2.2.2.1
  have hfq : f_q = nI q := R.2.2.1.1
  have hq3 : q ≤ 3 := R.2.2.1.2.2.1
  have hgq : g_q = nI q := R.2.2.2.2.2.2.1.1
  have hnq := gm_nq hn8 hq3
  unfold wpX_debt
  dsimp only
  rcases rl_ix v1 hn8 with h | ⟨s, hs, rfl⟩
  · exact xx_isState0 h hfn (br_t rfl (yb_bad h hgn ⟨rfl, I⟩))
  · refine xx_isState1 hn8 hs hfn (br_f ms_ne10 ?_)
    rcases rl_ix v2 (n := q) (by omega) with h | ⟨j, hj, rfl⟩
    · exact xx_isSet10 h hfq (br_t rfl (yb_ok hn8 hs hgn (yb_bad h hgq ⟨rfl, I⟩)))
    · refine xx_isSet11 hq3 hj hfq (br_f ms_ne10 ?_)
      by_cases h0 : f_solved = 0
      · exact br_t h0 (yb_ok hn8 hs hgn (yb_ok (by omega) hj hgq (br_t (hsv.1 h0) ⟨rfl, I⟩)))
      · obtain ⟨sX, sY⟩ := R.2.2.2.2.2.2.2.2.1 h0
        have h0' : ¬ g_solved = 0 := fun h => h0 (hsv.2 h)
        have cl : (nI s).toNatClampNeg = s := nI_clamp (by omega)
        have cl2 : (nI s * 3 + nI j).toNatClampNeg = s * 3 + j := by rw [gm_x3]; exact nI_clamp (by omega)
        have hin : vp_in (nI s * 3 + nI j) 24 := by rw [gm_x3]; exact vp_in_nI (by omega) (by omega)
        refine br_f h0 (xx_has_s hn8 hs sX.1 (fun hW => br_f ms_ne10 ⟨hin, ?_⟩) (fun hW => br_t rfl (yb_ok hn8 hs hgn (yb_ok (by omega) hj hgq (br_f h0' ⟨vp_in_nI (by omega) (by omega), ?_⟩)))))
        · refine yy_debt R.2.2.2.2.1 R.2.2.2.2.2.1 R.2.2.2.2.2.2.1 sY h0' hs hj hW fun mk z hz h1 h2 => ⟨?_, rl_mark R⟩
          rw [cl2]
          exact (sX.2.2.2.1 j hj s hs z hz h1 h2).symm
        · rw [cl]
          rcases gy_pos sY hnq hs with ⟨_, _, h1⟩ | ⟨hL, _⟩
          · exact br_f h1 ⟨rfl, I⟩
          · exact absurd hL hW
theorem rl_distance {k : Nat} (R : rl_R n p q EN E A G f_n f_p f_q f_full f_solved f_won f_lost f_playing f_tokenState f_awaitedNumber a_owners a_succ a_assume a_guar a_siegeLayers a_doomOf a_debtOf a_distOf g_n g_p g_q g_solved g_token g_awaited b_ownerOf b_moveMask b_assumption b_guarantee b_doomOf b_mark) (I : i_Rel k (f_n, f_p, f_q, f_full, f_solved, f_won, f_lost, f_playing, f_tokenState, f_awaitedNumber, a_owners, a_succ, a_assume, a_guar, a_siegeLayers, a_doomOf, a_debtOf, a_distOf) (g_n, g_p, g_q, g_solved, g_token, g_awaited, b_ownerOf, b_moveMask, b_assumption, b_guarantee, b_doomOf, b_mark)) (v1 v2 : Int32) : wpX_distance (fun r => wpY_distance (fun r' v' => r' = r ∧ i_Rel (k + 4) (f_n, f_p, f_q, f_full, f_solved, f_won, f_lost, f_playing, f_tokenState, f_awaitedNumber, a_owners, a_succ, a_assume, a_guar, a_siegeLayers, a_doomOf, a_debtOf, a_distOf) v') (g_n, g_p, g_q, g_solved, g_token, g_awaited, b_ownerOf, b_moveMask, b_assumption, b_guarantee, b_doomOf, b_mark) v1 v2) (f_n, f_p, f_q, f_full, f_solved, f_won, f_lost, f_playing, f_tokenState, f_awaitedNumber, a_owners, a_succ, a_assume, a_guar, a_siegeLayers, a_doomOf, a_debtOf, a_distOf) v1 v2 := by
  have hn8 : n ≤ 8 := R.1.2.2.1
  have hfn : f_n = nI n := R.1.1
  have hgn : g_n = nI n := R.2.2.2.2.1.1
  have hsv : f_solved = 0 ↔ g_solved = 0 := R.2.2.2.2.2.2.2.1
  have hfp : f_p = nI p := R.2.1.1
  have hp3 : p ≤ 3 := R.2.1.2.2.1
  have hgp : g_p = nI p := R.2.2.2.2.2.1.1
  have hnq := gm_nq hn8 R.2.2.1.2.2.1
  unfold wpX_distance
  dsimp only
  rcases rl_ix v1 hn8 with h | ⟨s, hs, rfl⟩
  · exact xx_isState0 h hfn (br_t rfl (yb_bad h hgn ⟨rfl, I⟩))
  · refine xx_isState1 hn8 hs hfn (br_f ms_ne10 ?_)
    rcases rl_ix v2 (n := p) (by omega) with h | ⟨i, hi, rfl⟩
    · exact xx_isSet00 h hfp (br_t rfl (yb_ok hn8 hs hgn (yb_bad h hgp ⟨rfl, I⟩)))
    · refine xx_isSet01 hp3 hi hfp (br_f ms_ne10 ?_)
      by_cases h0 : f_solved = 0
      · exact br_t h0 (yb_ok hn8 hs hgn (yb_ok (by omega) hi hgp (br_t (hsv.1 h0) ⟨rfl, I⟩)))
      · obtain ⟨sX, sY⟩ := R.2.2.2.2.2.2.2.2.1 h0
        have h0' : ¬ g_solved = 0 := fun h => h0 (hsv.2 h)
        have cl : (nI s).toNatClampNeg = s := nI_clamp (by omega)
        have cl2 : (nI s * 3 + nI i).toNatClampNeg = s * 3 + i := by rw [gm_x3]; exact nI_clamp (by omega)
        have hin : vp_in (nI s * 3 + nI i) 24 := by rw [gm_x3]; exact vp_in_nI (by omega) (by omega)
        refine br_f h0 (xx_has_s hn8 hs sX.1 (fun hW => br_f ms_ne10 (yb_ok hn8 hs hgn (yb_ok (by omega) hi hgp (br_f h0' ⟨vp_in_nI (by omega) (by omega), ?_⟩)))) (fun hW => br_t rfl ⟨hin, ?_⟩))
        · rw [cl]
          rcases gy_pos sY hnq hs with ⟨hL, _⟩ | ⟨_, h1, _⟩
          · exact absurd hL hW
          · exact br_f h1 ⟨rfl, I⟩
        · obtain ⟨y, hy, h1, h2, _⟩ := gy_lost sY hs (Classical.byContradiction hW)
          refine yy_distance R.2.2.2.2.1 R.2.2.2.2.2.1 R.2.2.2.2.2.2.1 sY h0' hi hs hy h1 h2 fun mk d hd h3 h4 => ⟨?_, rl_mark R⟩
          rw [cl2]
          exact (sX.2.2.2.2 s hs i hi y hy h1 h2 d hd h3 h4).symm
theorem rl_solve {k : Nat} (R : rl_R n p q EN E A G f_n f_p f_q f_full f_solved f_won f_lost f_playing f_tokenState f_awaitedNumber a_owners a_succ a_assume a_guar a_siegeLayers a_doomOf a_debtOf a_distOf g_n g_p g_q g_solved g_token g_awaited b_ownerOf b_moveMask b_assumption b_guarantee b_doomOf b_mark) (I : i_Rel k (f_n, f_p, f_q, f_full, f_solved, f_won, f_lost, f_playing, f_tokenState, f_awaitedNumber, a_owners, a_succ, a_assume, a_guar, a_siegeLayers, a_doomOf, a_debtOf, a_distOf) (g_n, g_p, g_q, g_solved, g_token, g_awaited, b_ownerOf, b_moveMask, b_assumption, b_guarantee, b_doomOf, b_mark)) : wpX_solve (fun r u' => wpY_solve (fun r' v' => r' = r ∧ i_Rel (k + 4) u' v') (g_n, g_p, g_q, g_solved, g_token, g_awaited, b_ownerOf, b_moveMask, b_assumption, b_guarantee, b_doomOf, b_mark)) (f_n, f_p, f_q, f_full, f_solved, f_won, f_lost, f_playing, f_tokenState, f_awaitedNumber, a_owners, a_succ, a_assume, a_guar, a_siegeLayers, a_doomOf, a_debtOf, a_distOf) := by
  have hn8 : n ≤ 8 := R.1.2.2.1
  have hfn : f_n = nI n := R.1.1
  have hgn : g_n = nI n := R.2.2.2.2.1.1
  have hsv : f_solved = 0 ↔ g_solved = 0 := R.2.2.2.2.2.2.2.1
  have hnq := gm_nq hn8 R.2.2.1.2.2.1
  by_cases h0 : f_solved = 0
  · refine xx_solve0 R.1 R.2.1 R.2.2.1 R.2.2.2.1 (fun w l sl dm db ds sX => ?_) h0
    refine yy_solve0 R.2.2.2.2.1 R.2.2.2.2.2.1 R.2.2.2.2.2.2.1 (fun mk dm' sY => ⟨rfl, ?_⟩) (hsv.1 h0)
    exact ⟨n, p, q, EN, E, A, G, R.1, R.2.1, R.2.2.1, R.2.2.2.1, R.2.2.2.2.1, R.2.2.2.2.2.1, R.2.2.2.2.2.2.1, Iff.rfl, fun _ => ⟨sX, sY⟩, Or.inl ⟨rfl, rfl⟩⟩
  · obtain ⟨sX, sY⟩ := R.2.2.2.2.2.2.2.2.1 h0
    have h0' : ¬ g_solved = 0 := fun h => h0 (hsv.2 h)
    exact xx_solve1 hfn hn8 sX.1 (yy_solve1 hgn hn8 hnq sY ⟨rfl, I⟩ h0') h0
end
end
end
section
/-! ===== choice, begin, advance, oppose ===== -/
section
variable {n p q : Nat} {EN : Nat → Prop} {E A G : Nat → Nat → Prop}
/-- ranks of both sides for one sought number -/
theorem rl_rk {w l : Int32} {dm db ds : Nat → Int32} (sX : gx_sol n p q EN E A G w l dm db ds) (hn : n ≤ 8) (hp : 0 < p) (hp3 : p ≤ 3) (hq3 : q ≤ 3) {s so : Nat} (hsoL : gm_L n p q (gm_pre n EN E) A G (n * q) s → so < p) (hsoW : ¬ gm_L n p q (gm_pre n EN E) A G (n * q) s → so < q) : ∃ f g : Nat → Nat, (∀ t, t < n → (gm_L n p q (gm_pre n EN E) A G (n * q) t ↔ gm_L n p q (gm_pre n EN E) A G (n * q) s) → gx_rk n p q EN E A G dm db ds so t (f t) ∧ gy_rk n p q EN E A G so t (g t) ∧ f t < 1000 ∧ g t < 1000000) ∧ (∀ t t', t < n → t' < n → (gm_L n p q (gm_pre n EN E) A G (n * q) t ↔ gm_L n p q (gm_pre n EN E) A G (n * q) s) → (gm_L n p q (gm_pre n EN E) A G (n * q) t' ↔ gm_L n p q (gm_pre n EN E) A G (n * q) s) → (f t < f t' ↔ g t < g t')) := by
  have hnq := gm_nq hn hq3
  have hnp := gm_nq hn hp3
  by_cases hLs : gm_L n p q (gm_pre n EN E) A G (n * q) s
  · have hso := hsoL hLs
    have key : ∀ t, t < n → gm_L n p q (gm_pre n EN E) A G (n * q) t → ∃ y d, y < n * q ∧ gm_L n p q (gm_pre n EN E) A G (y + 1) t ∧ ¬ gm_L n p q (gm_pre n EN E) A G y t ∧ d < n ∧ gm_Q (gm_pre n EN E) (gm_L n p q (gm_pre n EN E) A G (y + 1)) (A so) (d + 1) t ∧ ¬ gm_Q (gm_pre n EN E) (gm_L n p q (gm_pre n EN E) A G (y + 1)) (A so) d t ∧ dm t = nI y ∧ ds (t * 3 + so) = nI d := by
      intro t ht hL
      obtain ⟨y, hy, h1, h2⟩ := gm_first (F := fun y => gm_L n p q (gm_pre n EN E) A G y t) (n * q) (fun h => h) hL
      obtain ⟨d, hd, h3, h4⟩ := gm_first (F := fun d => gm_Q (gm_pre n EN E) (gm_L n p q (gm_pre n EN E) A G (y + 1)) (A so) d t) n (fun h => h) (gm_Q_all gm_pre_mono hp hso (y + 1) t ht h1)
      exact ⟨y, d, hy, h1, h2, hd, h3, h4, sX.2.2.1 t ht y hy h1 h2, sX.2.2.2.2 t ht so hso y hy h1 h2 d hd h3 h4⟩
    have val : ∀ t, t < n → gm_L n p q (gm_pre n EN E) A G (n * q) t → ∃ y d, y < 24 ∧ d < 8 ∧ (dm t).toNatClampNeg = y ∧ (ds (t * 3 + so)).toNatClampNeg = d := by
      intro t ht hL
      obtain ⟨y, d, hy, _, _, hd, _, _, h5, h6⟩ := key t ht hL
      exact ⟨y, d, by omega, by omega, by rw [h5]; exact nI_clamp (by omega), by rw [h6]; exact nI_clamp (by omega)⟩
    refine ⟨fun t => (dm t).toNatClampNeg * 8 + (ds (t * 3 + so)).toNatClampNeg, fun t => (dm t).toNatClampNeg * 100 + (ds (t * 3 + so)).toNatClampNeg, fun t ht hLt => ?_, fun t t' ht ht' hLt hLt' => ?_⟩
    · have hL := hLt.2 hLs
      obtain ⟨y, d, hy, h1, h2, hd, h3, h4, h5, h6⟩ := key t ht hL
      have e5 : (dm t).toNatClampNeg = y := by rw [h5]; exact nI_clamp (by omega)
      have e6 : (ds (t * 3 + so)).toNatClampNeg = d := by rw [h6]; exact nI_clamp (by omega)
      dsimp only
      rw [e5, e6]
      refine ⟨⟨fun h => absurd hL h, fun _ => ⟨y, d, h5, h6, rfl, by omega⟩⟩, ⟨by omega, fun h => absurd hL h, fun _ => ⟨y, so, rfl, hy, h1, h2, fun d' h7 h8 => ?_⟩⟩, by omega, by omega⟩
      have e : d' = d := by
        rcases Nat.lt_trichotomy d' d with hlt | heq | hgt
        · exact absurd (gm_Q_le gm_pre_mono d (d' + 1) (by omega) t ht h7) h4
        · exact heq
        · exact absurd (gm_Q_le gm_pre_mono d' (d + 1) (by omega) t ht h3) h8
      rw [e]
    · obtain ⟨y, d, hy, hd, e1, e2⟩ := val t ht (hLt.2 hLs)
      obtain ⟨y', d', hy', hd', e3, e4⟩ := val t' ht' (hLt'.2 hLs)
      dsimp only
      rw [e1, e2, e3, e4]
      omega
  · have hso := hsoW hLs
    refine ⟨fun t => (db (t * 3 + so)).toNatClampNeg, fun t => (db (t * 3 + so)).toNatClampNeg, fun t ht hLt => ?_, fun _ _ _ _ _ _ => Iff.rfl⟩
    have hL : ¬ gm_L n p q (gm_pre n EN E) A G (n * q) t := fun h => hLs (hLt.1 h)
    obtain ⟨z, hz, h1, h2⟩ := gm_first (F := fun x => gm_D n p (gm_pre n EN E) A (gm_gl n p q (gm_pre n EN E) A G so) x t) (n * p) (fun h => h) (gm_det gm_pre_mono hp hso ht hL)
    have h3 := sX.2.2.2.1 so hso t ht z hz h1 h2
    have e3 : (db (t * 3 + so)).toNatClampNeg = z := by rw [h3]; exact nI_clamp (by omega)
    dsimp only
    rw [e3]
    refine ⟨⟨fun _ => ⟨h3, by omega⟩, fun h => absurd h hL⟩, ⟨by omega, fun _ z' h4 h5 => ?_, fun h => absurd h hL⟩, by omega, by omega⟩
    rcases Nat.lt_trichotomy z' z with hlt | heq | hgt
    · exact absurd (gm_D_le gm_pre_mono z (z' + 1) (by omega) t ht h4) h2
    · exact heq
    · exact absurd (gm_D_le gm_pre_mono z' (z + 1) (by omega) t ht h1) h5
section
variable {f_n f_p f_q f_full f_solved f_won f_lost f_playing f_tokenState f_awaitedNumber : Int32}
variable {a_owners a_succ a_assume a_guar a_siegeLayers a_doomOf a_debtOf a_distOf : Nat → Int32}
variable {g_n g_p g_q g_solved g_token g_awaited : Int32}
variable {b_ownerOf b_moveMask b_assumption b_guarantee b_doomOf b_mark : Nat → Int32}
/-- the winner's number: 0 in L, 1 outside -/
theorem rl_win (R : rl_R n p q EN E A G f_n f_p f_q f_full f_solved f_won f_lost f_playing f_tokenState f_awaitedNumber a_owners a_succ a_assume a_guar a_siegeLayers a_doomOf a_debtOf a_distOf g_n g_p g_q g_solved g_token g_awaited b_ownerOf b_moveMask b_assumption b_guarantee b_doomOf b_mark) {s : Nat} (hs : s < n) : ((gm_L n p q (gm_pre n EN E) A G (n * q) s ∧ (a_owners s = 0 ↔ EN s)) ∨ (¬ gm_L n p q (gm_pre n EN E) A G (n * q) s ∧ (a_owners s = 1 ↔ ¬ EN s))) := by
  have h5 : ∀ x : Int32, x = 0 → ¬ x = 1 := fun x h h2 => ms_ne10 (h2.symm.trans h)
  have h4 : (a_owners s = 0 ↔ EN s) ∧ (a_owners s = 1 ↔ ¬ EN s) := by
    rcases R.1.2.2.2.1 s hs with ⟨h1, h2⟩ | ⟨h1, h2⟩
    · exact ⟨⟨fun _ => h2, fun _ => h1⟩, ⟨fun h => absurd h (h5 _ h1), fun h => absurd h2 h⟩⟩
    · exact ⟨⟨fun h => absurd h1 (h5 _ h), fun h => absurd h h2⟩, ⟨fun _ => h2, fun _ => h1⟩⟩
  by_cases hL : gm_L n p q (gm_pre n EN E) A G (n * q) s
  · exact Or.inl ⟨hL, h4.1⟩
  · exact Or.inr ⟨hL, h4.2⟩
/-- both sides choose the same state, in the same region -/
theorem rl_choose (R : rl_R n p q EN E A G f_n f_p f_q f_full f_solved f_won f_lost f_playing f_tokenState f_awaitedNumber a_owners a_succ a_assume a_guar a_siegeLayers a_doomOf a_debtOf a_distOf g_n g_p g_q g_solved g_token g_awaited b_ownerOf b_moveMask b_assumption b_guarantee b_doomOf b_mark) (h0 : ¬ f_solved = 0) {s m : Nat} (hs : s < n) (hmL : gm_L n p q (gm_pre n EN E) A G (n * q) s → m < p) (hmW : ¬ gm_L n p q (gm_pre n EN E) A G (n * q) s → m < q) : ∃ r, r < n ∧ (gm_L n p q (gm_pre n EN E) A G (n * q) r ↔ gm_L n p q (gm_pre n EN E) A G (n * q) s) ∧ (∀ post : Int32 → Prop, post (nI r) → wpX_choose post (f_n, f_p, f_q, f_full, f_solved, f_won, f_lost, f_playing, f_tokenState, f_awaitedNumber, a_owners, a_succ, a_assume, a_guar, a_siegeLayers, a_doomOf, a_debtOf, a_distOf) (nI s) (nI m)) ∧ (∀ (post : Int32 → SY → Prop) (sd fk : Int32), ((gm_L n p q (gm_pre n EN E) A G (n * q) s ∧ sd = 0 ∧ fk = nI p) ∨ (¬ gm_L n p q (gm_pre n EN E) A G (n * q) s ∧ sd = 1 ∧ fk = nI q)) → (∀ mk : Nat → Int32, post (nI r) (g_n, g_p, g_q, g_solved, g_token, g_awaited, b_ownerOf, b_moveMask, b_assumption, b_guarantee, b_doomOf, mk)) → wY_choice_64 post (nI s) (nI m) sd fk (nI m) g_n g_p g_q g_solved g_token g_awaited b_ownerOf b_moveMask b_assumption b_guarantee b_doomOf b_mark) := by
  obtain ⟨gX, aX, hX, hf, gY, aY, hY, hsv, hsol, _⟩ := R
  obtain ⟨sX, sY⟩ := hsol h0
  have h0' : ¬ g_solved = 0 := fun h => h0 (hsv.2 h)
  have hn8 : n ≤ 8 := gX.2.2.1
  have hp1 : 0 < p := aX.2.1
  have hp3 : p ≤ 3 := aX.2.2.1
  have hq3 : q ≤ 3 := hX.2.2.1
  obtain ⟨f, g, hfg, hord⟩ := rl_rk (s := s) (so := gm_lv n p q EN E A G s m) sX hn8 hp1 hp3 hq3 (fun h => gm_lv_L h (hmL h)) (fun h => gm_lv_W h (hmW h))
  have heq : gm_am (fun t => E s t ∧ (gm_L n p q (gm_pre n EN E) A G (n * q) t ↔ gm_L n p q (gm_pre n EN E) A G (n * q) s)) g n 0 s 1000000 = gm_am (fun t => E s t ∧ (gm_L n p q (gm_pre n EN E) A G (n * q) t ↔ gm_L n p q (gm_pre n EN E) A G (n * q) s)) f n 0 s 1000 := by
    refine (gm_am_eq (n := n) (fun t t' ht ht' h1 h2 => hord t t' ht ht' h1.2 h2.2) n 0 s 1000 1000000 (by omega) fun t ht h1 => ?_).symm
    obtain ⟨_, _, h2, h3⟩ := hfg t ht h1.2
    exact ⟨fun _ => h3, fun _ => h2⟩
  have hmem := gm_am_mem (n := n) (O := fun t => E s t ∧ (gm_L n p q (gm_pre n EN E) A G (n * q) t ↔ gm_L n p q (gm_pre n EN E) A G (n * q) s)) (V := fun t => t < n ∧ (gm_L n p q (gm_pre n EN E) A G (n * q) t ↔ gm_L n p q (gm_pre n EN E) A G (n * q) s)) (f := f) (fun t ht h1 => ⟨ht, h1.2⟩) n 0 s 1000 (by omega) ⟨hs, Iff.rfl⟩
  refine ⟨gm_am (fun t => E s t ∧ (gm_L n p q (gm_pre n EN E) A G (n * q) t ↔ gm_L n p q (gm_pre n EN E) A G (n * q) s)) f n 0 s 1000, hmem.1, hmem.2, fun post hp => ?_, fun post sd fk hsd hp => ?_⟩
  · exact xx_choose gX aX hX sX.1 sX.2.1 hs hmL hmW (fun t ht h1 => (hfg t ht h1).1) hp
  · have hlt : nI m < fk := by
      rcases hsd with ⟨h1, _, h2⟩ | ⟨h1, _, h2⟩
      · rw [h2]; exact nI_lt (hmL h1) (by omega)
      · rw [h2]; exact nI_lt (hmW h1) (by omega)
    refine br_t hlt (yy_leaving hn8 aY hY sY hs hmL hmW ⟨n + 1, ?_⟩)
    refine yy_choice87 gY aY hY sY h0' hs ?_ (fun t ht h1 => (hfg t ht h1).2.1) n 0 s 1000000 b_mark (by omega) (by omega) fun mk => ?_
    · rcases hsd with ⟨h1, h2, _⟩ | ⟨h1, h2, _⟩
      · exact Or.inl ⟨h1, h2, gm_lv_L h1 (hmL h1)⟩
      · exact Or.inr ⟨h1, h2, gm_lv_W h1 (hmW h1)⟩
    · rw [heq]
      exact hp mk
theorem rl_choice {k : Nat} (R : rl_R n p q EN E A G f_n f_p f_q f_full f_solved f_won f_lost f_playing f_tokenState f_awaitedNumber a_owners a_succ a_assume a_guar a_siegeLayers a_doomOf a_debtOf a_distOf g_n g_p g_q g_solved g_token g_awaited b_ownerOf b_moveMask b_assumption b_guarantee b_doomOf b_mark) (I : i_Rel k (f_n, f_p, f_q, f_full, f_solved, f_won, f_lost, f_playing, f_tokenState, f_awaitedNumber, a_owners, a_succ, a_assume, a_guar, a_siegeLayers, a_doomOf, a_debtOf, a_distOf) (g_n, g_p, g_q, g_solved, g_token, g_awaited, b_ownerOf, b_moveMask, b_assumption, b_guarantee, b_doomOf, b_mark)) (v1 v2 : Int32) : wpX_choice (fun r => wpY_choice (fun r' v' => r' = r ∧ i_Rel (k + 4) (f_n, f_p, f_q, f_full, f_solved, f_won, f_lost, f_playing, f_tokenState, f_awaitedNumber, a_owners, a_succ, a_assume, a_guar, a_siegeLayers, a_doomOf, a_debtOf, a_distOf) v') (g_n, g_p, g_q, g_solved, g_token, g_awaited, b_ownerOf, b_moveMask, b_assumption, b_guarantee, b_doomOf, b_mark) v1 v2) (f_n, f_p, f_q, f_full, f_solved, f_won, f_lost, f_playing, f_tokenState, f_awaitedNumber, a_owners, a_succ, a_assume, a_guar, a_siegeLayers, a_doomOf, a_debtOf, a_distOf) v1 v2 := by
  have hn8 : n ≤ 8 := R.1.2.2.1
  have hfn : f_n = nI n := R.1.1
  have hgn : g_n = nI n := R.2.2.2.2.1.1
  have hsv : f_solved = 0 ↔ g_solved = 0 := R.2.2.2.2.2.2.2.1
  have hfp : f_p = nI p := R.2.1.1
  have hp3 : p ≤ 3 := R.2.1.2.2.1
  have hgp : g_p = nI p := R.2.2.2.2.2.1.1
  have hfq : f_q = nI q := R.2.2.1.1
  have hq3 : q ≤ 3 := R.2.2.1.2.2.1
  have hgq : g_q = nI q := R.2.2.2.2.2.2.1.1
  have hnq := gm_nq hn8 hq3
  unfold wpX_choice
  dsimp only
  rcases rl_ix v1 hn8 with h | ⟨s, hs, rfl⟩
  · exact xx_isState0 h hfn (br_t rfl (yb_bad h hgn ⟨rfl, I⟩))
  · refine xx_isState1 hn8 hs hfn (br_f ms_ne10 ?_)
    have cl : (nI s).toNatClampNeg = s := nI_clamp (by omega)
    have hin : vp_in (nI s) 8 := vp_in_nI (by omega) (by omega)
    by_cases h0 : f_solved = 0
    · exact br_t h0 (yb_ok hn8 hs hgn (br_t (hsv.1 h0) ⟨rfl, I⟩))
    · obtain ⟨sX, sY⟩ := R.2.2.2.2.2.2.2.2.1 h0
      have h0' : ¬ g_solved = 0 := fun h => h0 (hsv.2 h)
      have hown := rl_own R hs
      refine br_f h0 ⟨hin, ?_⟩
      rw [cl]
      refine xx_winnerOf hn8 hs sX.1 (fun hL => ?_) (fun hL => ?_)
      · by_cases ho : a_owners s = 0
        · refine br_t ho (xx_has_s hn8 hs sX.1 (fun hW => absurd hL hW) (fun _ => br_t rfl ?_))
          rcases rl_ix v2 (n := p) (by omega) with h | ⟨m, hm, rfl⟩
          · have hY : wpY_choice (fun r' v' => r' = -1 ∧ i_Rel (k + 4) (f_n, f_p, f_q, f_full, f_solved, f_won, f_lost, f_playing, f_tokenState, f_awaitedNumber, a_owners, a_succ, a_assume, a_guar, a_siegeLayers, a_doomOf, a_debtOf, a_distOf) v') (g_n, g_p, g_q, g_solved, g_token, g_awaited, b_ownerOf, b_moveMask, b_assumption, b_guarantee, b_doomOf, b_mark) (nI s) v2 := by
              refine yb_ok hn8 hs hgn (br_f h0' (yy_winner hgn hn8 hnq sY h0' hs (fun _ => ⟨hin, ?_⟩) (fun h => absurd hL h)))
              rw [cl, hown]
              refine br_t ho ?_
              by_cases h2 : v2 < 0
              · exact br_t h2 ⟨rfl, I⟩
              · exact br_f h2 (br_f (fun e => ms_ne10 e.symm) (br_f (by rw [hgp]; exact Int32.not_lt.mpr (h.resolve_left h2)) ⟨rfl, I⟩))
            by_cases h2 : v2 < 0
            · exact br_t h2 hY
            · exact br_f h2 (br_f (by rw [hfp]; exact Int32.not_lt.mpr (h.resolve_left h2)) hY)
          · obtain ⟨r, _, _, hrX, hrY⟩ := rl_choose R h0 hs (m := m) (fun _ => hm) (fun h => absurd hL h)
            refine br_f (nI_pos (by omega)) (br_t (by rw [hfp]; exact nI_lt hm (by omega)) (hrX _ ?_))
            refine yb_ok hn8 hs hgn (br_f h0' (yy_winner hgn hn8 hnq sY h0' hs (fun _ => ⟨hin, ?_⟩) (fun h => absurd hL h)))
            rw [cl, hown]
            exact br_t ho (br_f (nI_pos (by omega)) (br_f (fun e => ms_ne10 e.symm) (hrY _ 0 _ (Or.inl ⟨hL, rfl, hgp⟩) fun mk => ⟨rfl, rl_mark R⟩)))
        · refine br_f ho (yb_ok hn8 hs hgn (br_f h0' (yy_winner hgn hn8 hnq sY h0' hs (fun _ => ⟨hin, ?_⟩) (fun h => absurd hL h))))
          rw [cl, hown]
          exact br_f ho ⟨rfl, I⟩
      · by_cases ho : a_owners s = 1
        · refine br_t ho (xx_has_s hn8 hs sX.1 (fun _ => br_f ms_ne10 ?_) (fun hW => absurd hL hW))
          rcases rl_ix v2 (n := q) (by omega) with h | ⟨m, hm, rfl⟩
          · have hY : wpY_choice (fun r' v' => r' = -1 ∧ i_Rel (k + 4) (f_n, f_p, f_q, f_full, f_solved, f_won, f_lost, f_playing, f_tokenState, f_awaitedNumber, a_owners, a_succ, a_assume, a_guar, a_siegeLayers, a_doomOf, a_debtOf, a_distOf) v') (g_n, g_p, g_q, g_solved, g_token, g_awaited, b_ownerOf, b_moveMask, b_assumption, b_guarantee, b_doomOf, b_mark) (nI s) v2 := by
              refine yb_ok hn8 hs hgn (br_f h0' (yy_winner hgn hn8 hnq sY h0' hs (fun h => absurd h hL) (fun _ => ⟨hin, ?_⟩)))
              rw [cl, hown]
              refine br_t ho ?_
              by_cases h2 : v2 < 0
              · exact br_t h2 ⟨rfl, I⟩
              · exact br_f h2 (br_t rfl (br_f (by rw [hgq]; exact Int32.not_lt.mpr (h.resolve_left h2)) ⟨rfl, I⟩))
            by_cases h2 : v2 < 0
            · exact br_t h2 hY
            · exact br_f h2 (br_f (by rw [hfq]; exact Int32.not_lt.mpr (h.resolve_left h2)) hY)
          · obtain ⟨r, _, _, hrX, hrY⟩ := rl_choose R h0 hs (m := m) (fun h => absurd h hL) (fun _ => hm)
            refine br_f (nI_pos (by omega)) (br_t (by rw [hfq]; exact nI_lt hm (by omega)) (hrX _ ?_))
            refine yb_ok hn8 hs hgn (br_f h0' (yy_winner hgn hn8 hnq sY h0' hs (fun h => absurd h hL) (fun _ => ⟨hin, ?_⟩)))
            rw [cl, hown]
            exact br_t ho (br_f (nI_pos (by omega)) (br_t rfl (hrY _ 1 _ (Or.inr ⟨hL, rfl, hgq⟩) fun mk => ⟨rfl, rl_mark R⟩)))
        · refine br_f ho (yb_ok hn8 hs hgn (br_f h0' (yy_winner hgn hn8 hnq sY h0' hs (fun h => absurd h hL) (fun _ => ⟨hin, ?_⟩))))
          rw [cl, hown]
          exact br_f ho ⟨rfl, I⟩
theorem rl_begin {k : Nat} (R : rl_R n p q EN E A G f_n f_p f_q f_full f_solved f_won f_lost f_playing f_tokenState f_awaitedNumber a_owners a_succ a_assume a_guar a_siegeLayers a_doomOf a_debtOf a_distOf g_n g_p g_q g_solved g_token g_awaited b_ownerOf b_moveMask b_assumption b_guarantee b_doomOf b_mark) (I : i_Rel k (f_n, f_p, f_q, f_full, f_solved, f_won, f_lost, f_playing, f_tokenState, f_awaitedNumber, a_owners, a_succ, a_assume, a_guar, a_siegeLayers, a_doomOf, a_debtOf, a_distOf) (g_n, g_p, g_q, g_solved, g_token, g_awaited, b_ownerOf, b_moveMask, b_assumption, b_guarantee, b_doomOf, b_mark)) (v1 : Int32) : wpX_begin (fun r u' => wpY_begin (fun r' v' => r' = r ∧ i_Rel (k + 4) u' v') (g_n, g_p, g_q, g_solved, g_token, g_awaited, b_ownerOf, b_moveMask, b_assumption, b_guarantee, b_doomOf, b_mark) v1) (f_n, f_p, f_q, f_full, f_solved, f_won, f_lost, f_playing, f_tokenState, f_awaitedNumber, a_owners, a_succ, a_assume, a_guar, a_siegeLayers, a_doomOf, a_debtOf, a_distOf) v1 := by
  have hn8 : n ≤ 8 := R.1.2.2.1
  have hfn : f_n = nI n := R.1.1
  have hgn : g_n = nI n := R.2.2.2.2.1.1
  have hsv : f_solved = 0 ↔ g_solved = 0 := R.2.2.2.2.2.2.2.1
  have hnq := gm_nq hn8 R.2.2.1.2.2.1
  unfold wpX_begin
  dsimp only
  rcases rl_ix v1 hn8 with h | ⟨s, hs, rfl⟩
  · exact xx_isState0 h hfn (br_t rfl (yb_bad h hgn ⟨rfl, I⟩))
  · refine xx_isState1 hn8 hs hfn (br_f ms_ne10 ?_)
    by_cases h0 : f_solved = 0
    · exact br_t h0 (yb_ok hn8 hs hgn (br_t (hsv.1 h0) ⟨rfl, I⟩))
    · have h0' : ¬ g_solved = 0 := fun h => h0 (hsv.2 h)
      obtain ⟨gX, aX, hX, hf, gY, aY, hY, hsv, hsol, _⟩ := R
      obtain ⟨sX, sY⟩ := hsol h0
      have done : i_Rel (k + 4) (f_n, f_p, f_q, f_full, f_solved, f_won, f_lost, 1, nI s, 0, a_owners, a_succ, a_assume, a_guar, a_siegeLayers, a_doomOf, a_debtOf, a_distOf) (g_n, g_p, g_q, g_solved, nI s, 0, b_ownerOf, b_moveMask, b_assumption, b_guarantee, b_doomOf, b_mark) := ⟨n, p, q, EN, E, A, G, gX, aX, hX, hf, gY, aY, hY, hsv, hsol, Or.inr ⟨ms_ne10, h0, s, 0, hs, rfl, rfl, rfl, rfl, fun _ => aX.2.1, fun _ => hX.2.1⟩⟩
      refine br_f h0 (xx_winnerOf hn8 hs sX.1 (fun hL => ?_) (fun hL => ?_))
      · exact yb_ok hn8 hs hgn (br_f h0' (yy_winner hgn hn8 hnq sY h0' hs (fun _ => ⟨rfl, done⟩) (fun h => absurd hL h)))
      · exact yb_ok hn8 hs hgn (br_f h0' (yy_winner hgn hn8 hnq sY h0' hs (fun h => absurd h hL) (fun _ => ⟨rfl, done⟩)))
/-- a move of the token inside its region -/
theorem rl_move {k s m r : Nat} {mk : Nat → Int32} (R : rl_R n p q EN E A G f_n f_p f_q f_full f_solved f_won f_lost f_playing f_tokenState f_awaitedNumber a_owners a_succ a_assume a_guar a_siegeLayers a_doomOf a_debtOf a_distOf g_n g_p g_q g_solved g_token g_awaited b_ownerOf b_moveMask b_assumption b_guarantee b_doomOf b_mark) (h0 : ¬ f_solved = 0) (hpl : ¬ f_playing = 0) (hr : r < n) (hrs : gm_L n p q (gm_pre n EN E) A G (n * q) r ↔ gm_L n p q (gm_pre n EN E) A G (n * q) s) (hmL : gm_L n p q (gm_pre n EN E) A G (n * q) s → m < p) (hmW : ¬ gm_L n p q (gm_pre n EN E) A G (n * q) s → m < q) : i_Rel (k + 4) (f_n, f_p, f_q, f_full, f_solved, f_won, f_lost, f_playing, nI r, nI (gm_lv n p q EN E A G s m), a_owners, a_succ, a_assume, a_guar, a_siegeLayers, a_doomOf, a_debtOf, a_distOf) (g_n, g_p, g_q, g_solved, nI r, nI (gm_lv n p q EN E A G s m), b_ownerOf, b_moveMask, b_assumption, b_guarantee, b_doomOf, mk) := by
  obtain ⟨gX, aX, hX, hf, gY, aY, hY, hsv, hsol, _⟩ := R
  refine ⟨n, p, q, EN, E, A, G, gX, aX, hX, hf, gY, aY, hY, hsv, hsol, Or.inr ⟨hpl, h0, r, gm_lv n p q EN E A G s m, hr, rfl, rfl, rfl, rfl, fun h => ?_, fun h => ?_⟩⟩
  · have hL := hrs.1 h
    exact gm_lv_L hL (hmL hL)
  · have hL : ¬ gm_L n p q (gm_pre n EN E) A G (n * q) s := fun h2 => h (hrs.2 h2)
    exact gm_lv_W hL (hmW hL)
end
end
end
section
/-! ===== advance, oppose ===== -/
section
variable {n p q : Nat} {EN : Nat → Prop} {E A G : Nat → Nat → Prop}
section
variable {f_n f_p f_q f_full f_solved f_won f_lost f_playing f_tokenState f_awaitedNumber : Int32}
variable {a_owners a_succ a_assume a_guar a_siegeLayers a_doomOf a_debtOf a_distOf : Nat → Int32}
variable {g_n g_p g_q g_solved g_token g_awaited : Int32}
variable {b_ownerOf b_moveMask b_assumption b_guarantee b_doomOf b_mark : Nat → Int32}
theorem rl_moveTok {post : SX → Prop} {s m r : Nat} (hn : n ≤ 8) (ha : gx_s n p A f_p a_assume) (hg : gx_s n q G f_q a_guar) (hw : ms_of n f_won (fun t => ¬ gm_L n p q (gm_pre n EN E) A G (n * q) t)) (hs : s < n) (hmL : gm_L n p q (gm_pre n EN E) A G (n * q) s → m < p) (hmW : ¬ gm_L n p q (gm_pre n EN E) A G (n * q) s → m < q) (h : post (f_n, f_p, f_q, f_full, f_solved, f_won, f_lost, f_playing, nI r, nI (gm_lv n p q EN E A G s m), a_owners, a_succ, a_assume, a_guar, a_siegeLayers, a_doomOf, a_debtOf, a_distOf)) : wpX_moveToken post (f_n, f_p, f_q, f_full, f_solved, f_won, f_lost, f_playing, nI s, nI m, a_owners, a_succ, a_assume, a_guar, a_siegeLayers, a_doomOf, a_debtOf, a_distOf) (nI r) := by
  unfold wpX_moveToken
  dsimp only
  exact xx_leave hn ha hg hw hs hmL hmW h
theorem rl_adv1 {k s m : Nat} (R : rl_R n p q EN E A G f_n f_p f_q f_full f_solved f_won f_lost f_playing (nI s) (nI m) a_owners a_succ a_assume a_guar a_siegeLayers a_doomOf a_debtOf a_distOf g_n g_p g_q g_solved (nI s) (nI m) b_ownerOf b_moveMask b_assumption b_guarantee b_doomOf b_mark) (I : i_Rel k (f_n, f_p, f_q, f_full, f_solved, f_won, f_lost, f_playing, nI s, nI m, a_owners, a_succ, a_assume, a_guar, a_siegeLayers, a_doomOf, a_debtOf, a_distOf) (g_n, g_p, g_q, g_solved, nI s, nI m, b_ownerOf, b_moveMask, b_assumption, b_guarantee, b_doomOf, b_mark)) (h0 : ¬ f_solved = 0) (h1 : ¬ f_playing = 0) (hs : s < n) (hmL : gm_L n p q (gm_pre n EN E) A G (n * q) s → m < p) (hmW : ¬ gm_L n p q (gm_pre n EN E) A G (n * q) s → m < q) : wpX_advance (fun r u' => wpY_advance (fun r' v' => r' = r ∧ i_Rel (k + 4) u' v') (g_n, g_p, g_q, g_solved, nI s, nI m, b_ownerOf, b_moveMask, b_assumption, b_guarantee, b_doomOf, b_mark)) (f_n, f_p, f_q, f_full, f_solved, f_won, f_lost, f_playing, nI s, nI m, a_owners, a_succ, a_assume, a_guar, a_siegeLayers, a_doomOf, a_debtOf, a_distOf) := by
  have hn8 : n ≤ 8 := R.1.2.2.1
  have hfn : f_n = nI n := R.1.1
  have hgn : g_n = nI n := R.2.2.2.2.1.1
  have hsv : f_solved = 0 ↔ g_solved = 0 := R.2.2.2.2.2.2.2.1
  have hp3 : p ≤ 3 := R.2.1.2.2.1
  have hgp : g_p = nI p := R.2.2.2.2.2.1.1
  have hq3 : q ≤ 3 := R.2.2.1.2.2.1
  have hgq : g_q = nI q := R.2.2.2.2.2.2.1.1
  have hnq := gm_nq hn8 hq3
  have h0' : ¬ g_solved = 0 := fun h => h0 (hsv.2 h)
  obtain ⟨sX, sY⟩ := R.2.2.2.2.2.2.2.2.1 h0
  have cl : (nI s).toNatClampNeg = s := nI_clamp (by omega)
  have hin : vp_in (nI s) 8 := vp_in_nI (by omega) (by omega)
  have hown := rl_own R hs
  have ht0 : 0 ≤ nI s := nI_pos' (by omega)
  obtain ⟨r, hr, hrs, hrX, hrY⟩ := rl_choose R h0 hs hmL hmW
  refine br_f h0 (br_f h1 ⟨hin, ?_⟩)
  rw [cl]
  refine xx_winnerOf hn8 hs sX.1 (fun hL => ?_) (fun hL => ?_)
  · by_cases ho : a_owners s = 0
    · refine br_t ho (hrX _ (rl_moveTok hn8 R.2.1 R.2.2.1 sX.1 hs hmL hmW ?_))
      refine br_f h0' (br_t ht0 ⟨hin, ?_⟩)
      rw [cl]
      refine yy_winner hgn hn8 hnq sY h0' hs (fun _ => ?_) (fun h => absurd hL h)
      rw [hown]
      refine br_t ho (yb_ok hn8 hs hgn (br_f h0' (yy_winner hgn hn8 hnq sY h0' hs (fun _ => ⟨hin, ?_⟩) (fun h => absurd hL h))))
      rw [cl, hown]
      refine br_t ho (br_f (nI_pos (by have := hmL hL; omega)) (br_f (fun e => ms_ne10 e.symm) (hrY _ 0 _ (Or.inl ⟨hL, rfl, hgp⟩) fun mk => ?_)))
      exact yy_leaving hn8 R.2.2.2.2.2.1 R.2.2.2.2.2.2.1 sY hs hmL hmW ⟨rfl, rl_move R h0 h1 hr hrs hmL hmW⟩
    · refine br_f ho (br_f h0' (br_t ht0 ⟨hin, ?_⟩))
      rw [cl]
      refine yy_winner hgn hn8 hnq sY h0' hs (fun _ => ?_) (fun h => absurd hL h)
      rw [hown]
      exact br_f ho ⟨rfl, I⟩
  · by_cases ho : a_owners s = 1
    · refine br_t ho (hrX _ (rl_moveTok hn8 R.2.1 R.2.2.1 sX.1 hs hmL hmW ?_))
      refine br_f h0' (br_t ht0 ⟨hin, ?_⟩)
      rw [cl]
      refine yy_winner hgn hn8 hnq sY h0' hs (fun h => absurd h hL) (fun _ => ?_)
      rw [hown]
      refine br_t ho (yb_ok hn8 hs hgn (br_f h0' (yy_winner hgn hn8 hnq sY h0' hs (fun h => absurd h hL) (fun _ => ⟨hin, ?_⟩))))
      rw [cl, hown]
      refine br_t ho (br_f (nI_pos (by have := hmW hL; omega)) (br_t rfl (hrY _ 1 _ (Or.inr ⟨hL, rfl, hgq⟩) fun mk => ?_)))
      exact yy_leaving hn8 R.2.2.2.2.2.1 R.2.2.2.2.2.2.1 sY hs hmL hmW ⟨rfl, rl_move R h0 h1 hr hrs hmL hmW⟩
    · refine br_f ho (br_f h0' (br_t ht0 ⟨hin, ?_⟩))
      rw [cl]
      refine yy_winner hgn hn8 hnq sY h0' hs (fun h => absurd h hL) (fun _ => ?_)
      rw [hown]
      exact br_f ho ⟨rfl, I⟩
theorem rl_advance {k : Nat} (R : rl_R n p q EN E A G f_n f_p f_q f_full f_solved f_won f_lost f_playing f_tokenState f_awaitedNumber a_owners a_succ a_assume a_guar a_siegeLayers a_doomOf a_debtOf a_distOf g_n g_p g_q g_solved g_token g_awaited b_ownerOf b_moveMask b_assumption b_guarantee b_doomOf b_mark) (I : i_Rel k (f_n, f_p, f_q, f_full, f_solved, f_won, f_lost, f_playing, f_tokenState, f_awaitedNumber, a_owners, a_succ, a_assume, a_guar, a_siegeLayers, a_doomOf, a_debtOf, a_distOf) (g_n, g_p, g_q, g_solved, g_token, g_awaited, b_ownerOf, b_moveMask, b_assumption, b_guarantee, b_doomOf, b_mark)) : wpX_advance (fun r u' => wpY_advance (fun r' v' => r' = r ∧ i_Rel (k + 4) u' v') (g_n, g_p, g_q, g_solved, g_token, g_awaited, b_ownerOf, b_moveMask, b_assumption, b_guarantee, b_doomOf, b_mark)) (f_n, f_p, f_q, f_full, f_solved, f_won, f_lost, f_playing, f_tokenState, f_awaitedNumber, a_owners, a_succ, a_assume, a_guar, a_siegeLayers, a_doomOf, a_debtOf, a_distOf) := by
  have hsv : f_solved = 0 ↔ g_solved = 0 := R.2.2.2.2.2.2.2.1
  by_cases h0 : f_solved = 0
  · exact br_t h0 (br_t (hsv.1 h0) ⟨rfl, I⟩)
  · have h0' : ¬ g_solved = 0 := fun h => h0 (hsv.2 h)
    rcases R.2.2.2.2.2.2.2.2.2 with ⟨h1, h2⟩ | ⟨h1, _, s, m, hs, e1, e2, e3, e4, hmL, hmW⟩
    · exact br_f h0 (br_t h1 (br_f h0' (br_f (by rw [h2]; exact gy_m1) ⟨rfl, I⟩)))
    · subst e1 e2 e3 e4
      exact rl_adv1 R I h0 h1 hs hmL hmW
/-- X's answer to a bad move, a good move -/
theorem rl_opp1 {k s m : Nat} (R : rl_R n p q EN E A G f_n f_p f_q f_full f_solved f_won f_lost f_playing (nI s) (nI m) a_owners a_succ a_assume a_guar a_siegeLayers a_doomOf a_debtOf a_distOf g_n g_p g_q g_solved (nI s) (nI m) b_ownerOf b_moveMask b_assumption b_guarantee b_doomOf b_mark) (I : i_Rel k (f_n, f_p, f_q, f_full, f_solved, f_won, f_lost, f_playing, nI s, nI m, a_owners, a_succ, a_assume, a_guar, a_siegeLayers, a_doomOf, a_debtOf, a_distOf) (g_n, g_p, g_q, g_solved, nI s, nI m, b_ownerOf, b_moveMask, b_assumption, b_guarantee, b_doomOf, b_mark)) (h0 : ¬ f_solved = 0) (h1 : ¬ f_playing = 0) (hs : s < n) (hmL : gm_L n p q (gm_pre n EN E) A G (n * q) s → m < p) (hmW : ¬ gm_L n p q (gm_pre n EN E) A G (n * q) s → m < q) (v1 : Int32) : wpX_oppose (fun r u' => wpY_oppose (fun r' v' => r' = r ∧ i_Rel (k + 4) u' v') (g_n, g_p, g_q, g_solved, nI s, nI m, b_ownerOf, b_moveMask, b_assumption, b_guarantee, b_doomOf, b_mark) v1) (f_n, f_p, f_q, f_full, f_solved, f_won, f_lost, f_playing, nI s, nI m, a_owners, a_succ, a_assume, a_guar, a_siegeLayers, a_doomOf, a_debtOf, a_distOf) v1 := by
  have hn8 : n ≤ 8 := R.1.2.2.1
  have hfn : f_n = nI n := R.1.1
  have hgn : g_n = nI n := R.2.2.2.2.1.1
  have hsv : f_solved = 0 ↔ g_solved = 0 := R.2.2.2.2.2.2.2.1
  have hp1 : 0 < p := R.2.1.2.1
  have hq1 : 0 < q := R.2.2.1.2.1
  have hnq := gm_nq hn8 R.2.2.1.2.2.1
  have h0' : ¬ g_solved = 0 := fun h => h0 (hsv.2 h)
  obtain ⟨sX, sY⟩ := R.2.2.2.2.2.2.2.2.1 h0
  have cl : (nI s).toNatClampNeg = s := nI_clamp (by omega)
  have hin : vp_in (nI s) 8 := vp_in_nI (by omega) (by omega)
  have hown := rl_own R hs
  have ht0 : 0 ≤ nI s := nI_pos' (by omega)
  have hEX := R.1.2.2.2.2.1 s hs
  have hEY := R.2.2.2.2.1.2.2.2.2.1 s hs
  refine br_f h0 (br_f h1 ⟨hin, ?_⟩)
  rw [cl]
  refine xx_winnerOf hn8 hs sX.1 (fun hL => ?_) (fun hL => ?_)
  · by_cases ho : a_owners s = 0
    · refine br_t ho (br_f h0' (br_t ht0 ⟨hin, ?_⟩))
      rw [cl]
      refine yy_winner hgn hn8 hnq sY h0' hs (fun _ => ?_) (fun h => absurd hL h)
      rw [hown]
      exact br_t ho ⟨rfl, I⟩
    · have hreg : ∀ t, t < n → E s t → (gm_L n p q (gm_pre n EN E) A G (n * q) t ↔ gm_L n p q (gm_pre n EN E) A G (n * q) s) := by
        intro t ht hE
        have hEN : ¬ EN s := by
          rcases R.1.2.2.2.1 s hs with ⟨h2, _⟩ | ⟨_, h2⟩
          · exact absurd h2 ho
          · exact h2
        exact ⟨fun _ => hL, fun _ => (gm_Li_unf gm_pre_mono hp1 hq1 hs hL).2 hEN t ht hE⟩
      refine br_f ho ?_
      rcases rl_ix v1 hn8 with h | ⟨t, ht, rfl⟩
      · refine xx_isState0 h hfn (br_t rfl (br_f h0' (br_t ht0 ⟨hin, ?_⟩)))
        rw [cl]
        refine yy_winner hgn hn8 hnq sY h0' hs (fun _ => ?_) (fun h => absurd hL h)
        rw [hown]
        exact br_f ho (yb_bad h hgn ⟨rfl, I⟩)
      · refine xx_isState1 hn8 ht hfn (br_f ms_ne10 ⟨hin, xx_has_s hn8 ht hEX (fun hE => br_f ms_ne10 (rl_moveTok hn8 R.2.1 R.2.2.1 sX.1 hs hmL hmW (br_f h0' (br_t ht0 ⟨hin, ?_⟩)))) (fun hE => br_t rfl (br_f h0' (br_t ht0 ⟨hin, ?_⟩)))⟩)
        · rw [cl]
          refine yy_winner hgn hn8 hnq sY h0' hs (fun _ => ?_) (fun h => absurd hL h)
          rw [hown]
          exact br_f ho (yb_ok hn8 ht hgn ⟨hin, yy_has_s hn8 ht hEY (fun _ => br_f ms_ne10 (yy_leaving hn8 R.2.2.2.2.2.1 R.2.2.2.2.2.2.1 sY hs hmL hmW ⟨rfl, rl_move R h0 h1 ht (hreg t ht hE) hmL hmW⟩)) (fun h => absurd hE h)⟩)
        · rw [cl]
          refine yy_winner hgn hn8 hnq sY h0' hs (fun _ => ?_) (fun h => absurd hL h)
          rw [hown]
          exact br_f ho (yb_ok hn8 ht hgn ⟨hin, yy_has_s hn8 ht hEY (fun h => absurd h hE) (fun _ => br_t rfl ⟨rfl, I⟩)⟩)
  · by_cases ho : a_owners s = 1
    · refine br_t ho (br_f h0' (br_t ht0 ⟨hin, ?_⟩))
      rw [cl]
      refine yy_winner hgn hn8 hnq sY h0' hs (fun h => absurd h hL) (fun _ => ?_)
      rw [hown]
      exact br_t ho ⟨rfl, I⟩
    · have hreg : ∀ t, t < n → E s t → (gm_L n p q (gm_pre n EN E) A G (n * q) t ↔ gm_L n p q (gm_pre n EN E) A G (n * q) s) := by
        intro t ht hE
        have hEN : EN s := by
          rcases R.1.2.2.2.1 s hs with ⟨_, h2⟩ | ⟨h2, _⟩
          · exact h2
          · exact absurd h2 ho
        exact ⟨fun h => absurd (gm_Li_step gm_pre_mono hp1 hq1 hs ⟨fun _ => ⟨t, ht, hE, h⟩, fun h2 => absurd hEN h2⟩) hL, fun h => absurd h hL⟩
      refine br_f ho ?_
      rcases rl_ix v1 hn8 with h | ⟨t, ht, rfl⟩
      · refine xx_isState0 h hfn (br_t rfl (br_f h0' (br_t ht0 ⟨hin, ?_⟩)))
        rw [cl]
        refine yy_winner hgn hn8 hnq sY h0' hs (fun h => absurd h hL) (fun _ => ?_)
        rw [hown]
        exact br_f ho (yb_bad h hgn ⟨rfl, I⟩)
      · refine xx_isState1 hn8 ht hfn (br_f ms_ne10 ⟨hin, xx_has_s hn8 ht hEX (fun hE => br_f ms_ne10 (rl_moveTok hn8 R.2.1 R.2.2.1 sX.1 hs hmL hmW (br_f h0' (br_t ht0 ⟨hin, ?_⟩)))) (fun hE => br_t rfl (br_f h0' (br_t ht0 ⟨hin, ?_⟩)))⟩)
        · rw [cl]
          refine yy_winner hgn hn8 hnq sY h0' hs (fun h => absurd h hL) (fun _ => ?_)
          rw [hown]
          exact br_f ho (yb_ok hn8 ht hgn ⟨hin, yy_has_s hn8 ht hEY (fun _ => br_f ms_ne10 (yy_leaving hn8 R.2.2.2.2.2.1 R.2.2.2.2.2.2.1 sY hs hmL hmW ⟨rfl, rl_move R h0 h1 ht (hreg t ht hE) hmL hmW⟩)) (fun h => absurd hE h)⟩)
        · rw [cl]
          refine yy_winner hgn hn8 hnq sY h0' hs (fun h => absurd h hL) (fun _ => ?_)
          rw [hown]
          exact br_f ho (yb_ok hn8 ht hgn ⟨hin, yy_has_s hn8 ht hEY (fun h => absurd h hE) (fun _ => br_t rfl ⟨rfl, I⟩)⟩)
theorem rl_oppose {k : Nat} (R : rl_R n p q EN E A G f_n f_p f_q f_full f_solved f_won f_lost f_playing f_tokenState f_awaitedNumber a_owners a_succ a_assume a_guar a_siegeLayers a_doomOf a_debtOf a_distOf g_n g_p g_q g_solved g_token g_awaited b_ownerOf b_moveMask b_assumption b_guarantee b_doomOf b_mark) (I : i_Rel k (f_n, f_p, f_q, f_full, f_solved, f_won, f_lost, f_playing, f_tokenState, f_awaitedNumber, a_owners, a_succ, a_assume, a_guar, a_siegeLayers, a_doomOf, a_debtOf, a_distOf) (g_n, g_p, g_q, g_solved, g_token, g_awaited, b_ownerOf, b_moveMask, b_assumption, b_guarantee, b_doomOf, b_mark)) (v1 : Int32) : wpX_oppose (fun r u' => wpY_oppose (fun r' v' => r' = r ∧ i_Rel (k + 4) u' v') (g_n, g_p, g_q, g_solved, g_token, g_awaited, b_ownerOf, b_moveMask, b_assumption, b_guarantee, b_doomOf, b_mark) v1) (f_n, f_p, f_q, f_full, f_solved, f_won, f_lost, f_playing, f_tokenState, f_awaitedNumber, a_owners, a_succ, a_assume, a_guar, a_siegeLayers, a_doomOf, a_debtOf, a_distOf) v1 := by
  have hsv : f_solved = 0 ↔ g_solved = 0 := R.2.2.2.2.2.2.2.1
  by_cases h0 : f_solved = 0
  · exact br_t h0 (br_t (hsv.1 h0) ⟨rfl, I⟩)
  · have h0' : ¬ g_solved = 0 := fun h => h0 (hsv.2 h)
    rcases R.2.2.2.2.2.2.2.2.2 with ⟨h1, h2⟩ | ⟨h1, _, s, m, hs, e1, e2, e3, e4, hmL, hmW⟩
    · exact br_f h0 (br_t h1 (br_f h0' (br_f (by rw [h2]; exact gy_m1) ⟨rfl, I⟩)))
    · subst e1 e2 e3 e4
      exact rl_opp1 R I h0 h1 hs hmL hmW v1
end
end
end
section
/-! ===== what is owed ===== -/
theorem i_vc_setState {k : Nat} {u : SX} {v : SY} (I : i_Rel k u v) (hk : k + 4 ≤ 2051) (v1 : Int32) (v2 : Int32) (v3 : Int32) : wpX_setState (fun r u' => wpY_setState (fun r' v' => r' = r ∧ i_Rel (k + 4) u' v') v v1 v2 v3) u v1 v2 v3 := by
  obtain ⟨f_n, f_p, f_q, f_full, f_solved, f_won, f_lost, f_playing, f_tokenState, f_awaitedNumber, a_owners, a_succ, a_assume, a_guar, a_siegeLayers, a_doomOf, a_debtOf, a_distOf⟩ := u
  obtain ⟨g_n, g_p, g_q, g_solved, g_token, g_awaited, b_ownerOf, b_moveMask, b_assumption, b_guarantee, b_doomOf, b_mark⟩ := v
  have I0 := I
  obtain ⟨n, p, q, EN, E, A, G, R⟩ := I0
  exact rl_setState R I v1 v2 v3
theorem i_vc_setMembers {k : Nat} {u : SX} {v : SY} (I : i_Rel k u v) (hk : k + 4 ≤ 2051) (v1 : Int32) (v2 : Int32) (v3 : Int32) : wpX_setMembers (fun r u' => wpY_setMembers (fun r' v' => r' = r ∧ i_Rel (k + 4) u' v') v v1 v2 v3) u v1 v2 v3 := by
  obtain ⟨f_n, f_p, f_q, f_full, f_solved, f_won, f_lost, f_playing, f_tokenState, f_awaitedNumber, a_owners, a_succ, a_assume, a_guar, a_siegeLayers, a_doomOf, a_debtOf, a_distOf⟩ := u
  obtain ⟨g_n, g_p, g_q, g_solved, g_token, g_awaited, b_ownerOf, b_moveMask, b_assumption, b_guarantee, b_doomOf, b_mark⟩ := v
  have I0 := I
  obtain ⟨n, p, q, EN, E, A, G, R⟩ := I0
  exact rl_setMembers R I v1 v2 v3
theorem i_vc_owner {k : Nat} {u : SX} {v : SY} (I : i_Rel k u v) (hk : k + 4 ≤ 2051) (v1 : Int32) : wpX_owner (fun r => wpY_owner (fun r' => r' = r ∧ i_Rel (k + 4) u v) v v1) u v1 := by
  obtain ⟨f_n, f_p, f_q, f_full, f_solved, f_won, f_lost, f_playing, f_tokenState, f_awaitedNumber, a_owners, a_succ, a_assume, a_guar, a_siegeLayers, a_doomOf, a_debtOf, a_distOf⟩ := u
  obtain ⟨g_n, g_p, g_q, g_solved, g_token, g_awaited, b_ownerOf, b_moveMask, b_assumption, b_guarantee, b_doomOf, b_mark⟩ := v
  have I0 := I
  obtain ⟨n, p, q, EN, E, A, G, R⟩ := I0
  exact rl_owner R I v1
theorem i_vc_moves {k : Nat} {u : SX} {v : SY} (I : i_Rel k u v) (hk : k + 4 ≤ 2051) (v1 : Int32) : wpX_moves (fun r => wpY_moves (fun r' => r' = r ∧ i_Rel (k + 4) u v) v v1) u v1 := by
  obtain ⟨f_n, f_p, f_q, f_full, f_solved, f_won, f_lost, f_playing, f_tokenState, f_awaitedNumber, a_owners, a_succ, a_assume, a_guar, a_siegeLayers, a_doomOf, a_debtOf, a_distOf⟩ := u
  obtain ⟨g_n, g_p, g_q, g_solved, g_token, g_awaited, b_ownerOf, b_moveMask, b_assumption, b_guarantee, b_doomOf, b_mark⟩ := v
  have I0 := I
  obtain ⟨n, p, q, EN, E, A, G, R⟩ := I0
  exact rl_moves R I v1
theorem i_vc_members {k : Nat} {u : SX} {v : SY} (I : i_Rel k u v) (hk : k + 4 ≤ 2051) (v1 : Int32) (v2 : Int32) : wpX_members (fun r => wpY_members (fun r' => r' = r ∧ i_Rel (k + 4) u v) v v1 v2) u v1 v2 := by
  obtain ⟨f_n, f_p, f_q, f_full, f_solved, f_won, f_lost, f_playing, f_tokenState, f_awaitedNumber, a_owners, a_succ, a_assume, a_guar, a_siegeLayers, a_doomOf, a_debtOf, a_distOf⟩ := u
  obtain ⟨g_n, g_p, g_q, g_solved, g_token, g_awaited, b_ownerOf, b_moveMask, b_assumption, b_guarantee, b_doomOf, b_mark⟩ := v
  have I0 := I
  obtain ⟨n, p, q, EN, E, A, G, R⟩ := I0
  exact rl_members R I v1 v2
theorem i_vc_solve {k : Nat} {u : SX} {v : SY} (I : i_Rel k u v) (hk : k + 4 ≤ 2051) : wpX_solve (fun r u' => wpY_solve (fun r' v' => r' = r ∧ i_Rel (k + 4) u' v') v) u := by
  obtain ⟨f_n, f_p, f_q, f_full, f_solved, f_won, f_lost, f_playing, f_tokenState, f_awaitedNumber, a_owners, a_succ, a_assume, a_guar, a_siegeLayers, a_doomOf, a_debtOf, a_distOf⟩ := u
  obtain ⟨g_n, g_p, g_q, g_solved, g_token, g_awaited, b_ownerOf, b_moveMask, b_assumption, b_guarantee, b_doomOf, b_mark⟩ := v
  have I0 := I
  obtain ⟨n, p, q, EN, E, A, G, R⟩ := I0
  exact rl_solve R I
theorem i_vc_winner {k : Nat} {u : SX} {v : SY} (I : i_Rel k u v) (hk : k + 4 ≤ 2051) (v1 : Int32) : wpX_winner (fun r => wpY_winner (fun r' => r' = r ∧ i_Rel (k + 4) u v) v v1) u v1 := by
  obtain ⟨f_n, f_p, f_q, f_full, f_solved, f_won, f_lost, f_playing, f_tokenState, f_awaitedNumber, a_owners, a_succ, a_assume, a_guar, a_siegeLayers, a_doomOf, a_debtOf, a_distOf⟩ := u
  obtain ⟨g_n, g_p, g_q, g_solved, g_token, g_awaited, b_ownerOf, b_moveMask, b_assumption, b_guarantee, b_doomOf, b_mark⟩ := v
  have I0 := I
  obtain ⟨n, p, q, EN, E, A, G, R⟩ := I0
  exact rl_winner R I v1
theorem i_vc_debt {k : Nat} {u : SX} {v : SY} (I : i_Rel k u v) (hk : k + 4 ≤ 2051) (v1 : Int32) (v2 : Int32) : wpX_debt (fun r => wpY_debt (fun r' v' => r' = r ∧ i_Rel (k + 4) u v') v v1 v2) u v1 v2 := by
  obtain ⟨f_n, f_p, f_q, f_full, f_solved, f_won, f_lost, f_playing, f_tokenState, f_awaitedNumber, a_owners, a_succ, a_assume, a_guar, a_siegeLayers, a_doomOf, a_debtOf, a_distOf⟩ := u
  obtain ⟨g_n, g_p, g_q, g_solved, g_token, g_awaited, b_ownerOf, b_moveMask, b_assumption, b_guarantee, b_doomOf, b_mark⟩ := v
  have I0 := I
  obtain ⟨n, p, q, EN, E, A, G, R⟩ := I0
  exact rl_debt R I v1 v2
theorem i_vc_doom {k : Nat} {u : SX} {v : SY} (I : i_Rel k u v) (hk : k + 4 ≤ 2051) (v1 : Int32) : wpX_doom (fun r => wpY_doom (fun r' => r' = r ∧ i_Rel (k + 4) u v) v v1) u v1 := by
  obtain ⟨f_n, f_p, f_q, f_full, f_solved, f_won, f_lost, f_playing, f_tokenState, f_awaitedNumber, a_owners, a_succ, a_assume, a_guar, a_siegeLayers, a_doomOf, a_debtOf, a_distOf⟩ := u
  obtain ⟨g_n, g_p, g_q, g_solved, g_token, g_awaited, b_ownerOf, b_moveMask, b_assumption, b_guarantee, b_doomOf, b_mark⟩ := v
  have I0 := I
  obtain ⟨n, p, q, EN, E, A, G, R⟩ := I0
  exact rl_doom R I v1
theorem i_vc_distance {k : Nat} {u : SX} {v : SY} (I : i_Rel k u v) (hk : k + 4 ≤ 2051) (v1 : Int32) (v2 : Int32) : wpX_distance (fun r => wpY_distance (fun r' v' => r' = r ∧ i_Rel (k + 4) u v') v v1 v2) u v1 v2 := by
  obtain ⟨f_n, f_p, f_q, f_full, f_solved, f_won, f_lost, f_playing, f_tokenState, f_awaitedNumber, a_owners, a_succ, a_assume, a_guar, a_siegeLayers, a_doomOf, a_debtOf, a_distOf⟩ := u
  obtain ⟨g_n, g_p, g_q, g_solved, g_token, g_awaited, b_ownerOf, b_moveMask, b_assumption, b_guarantee, b_doomOf, b_mark⟩ := v
  have I0 := I
  obtain ⟨n, p, q, EN, E, A, G, R⟩ := I0
  exact rl_distance R I v1 v2
theorem i_vc_choice {k : Nat} {u : SX} {v : SY} (I : i_Rel k u v) (hk : k + 4 ≤ 2051) (v1 : Int32) (v2 : Int32) : wpX_choice (fun r => wpY_choice (fun r' v' => r' = r ∧ i_Rel (k + 4) u v') v v1 v2) u v1 v2 := by
  obtain ⟨f_n, f_p, f_q, f_full, f_solved, f_won, f_lost, f_playing, f_tokenState, f_awaitedNumber, a_owners, a_succ, a_assume, a_guar, a_siegeLayers, a_doomOf, a_debtOf, a_distOf⟩ := u
  obtain ⟨g_n, g_p, g_q, g_solved, g_token, g_awaited, b_ownerOf, b_moveMask, b_assumption, b_guarantee, b_doomOf, b_mark⟩ := v
  have I0 := I
  obtain ⟨n, p, q, EN, E, A, G, R⟩ := I0
  exact rl_choice R I v1 v2
theorem i_vc_begin {k : Nat} {u : SX} {v : SY} (I : i_Rel k u v) (hk : k + 4 ≤ 2051) (v1 : Int32) : wpX_begin (fun r u' => wpY_begin (fun r' v' => r' = r ∧ i_Rel (k + 4) u' v') v v1) u v1 := by
  obtain ⟨f_n, f_p, f_q, f_full, f_solved, f_won, f_lost, f_playing, f_tokenState, f_awaitedNumber, a_owners, a_succ, a_assume, a_guar, a_siegeLayers, a_doomOf, a_debtOf, a_distOf⟩ := u
  obtain ⟨g_n, g_p, g_q, g_solved, g_token, g_awaited, b_ownerOf, b_moveMask, b_assumption, b_guarantee, b_doomOf, b_mark⟩ := v
  have I0 := I
  obtain ⟨n, p, q, EN, E, A, G, R⟩ := I0
  exact rl_begin R I v1
theorem i_vc_advance {k : Nat} {u : SX} {v : SY} (I : i_Rel k u v) (hk : k + 4 ≤ 2051) : wpX_advance (fun r u' => wpY_advance (fun r' v' => r' = r ∧ i_Rel (k + 4) u' v') v) u := by
  obtain ⟨f_n, f_p, f_q, f_full, f_solved, f_won, f_lost, f_playing, f_tokenState, f_awaitedNumber, a_owners, a_succ, a_assume, a_guar, a_siegeLayers, a_doomOf, a_debtOf, a_distOf⟩ := u
  obtain ⟨g_n, g_p, g_q, g_solved, g_token, g_awaited, b_ownerOf, b_moveMask, b_assumption, b_guarantee, b_doomOf, b_mark⟩ := v
  have I0 := I
  obtain ⟨n, p, q, EN, E, A, G, R⟩ := I0
  exact rl_advance R I
theorem i_vc_oppose {k : Nat} {u : SX} {v : SY} (I : i_Rel k u v) (hk : k + 4 ≤ 2051) (v1 : Int32) : wpX_oppose (fun r u' => wpY_oppose (fun r' v' => r' = r ∧ i_Rel (k + 4) u' v') v v1) u v1 := by
  obtain ⟨f_n, f_p, f_q, f_full, f_solved, f_won, f_lost, f_playing, f_tokenState, f_awaitedNumber, a_owners, a_succ, a_assume, a_guar, a_siegeLayers, a_doomOf, a_debtOf, a_distOf⟩ := u
  obtain ⟨g_n, g_p, g_q, g_solved, g_token, g_awaited, b_ownerOf, b_moveMask, b_assumption, b_guarantee, b_doomOf, b_mark⟩ := v
  have I0 := I
  obtain ⟨n, p, q, EN, E, A, G, R⟩ := I0
  exact rl_oppose R I v1
theorem i_vc_token {k : Nat} {u : SX} {v : SY} (I : i_Rel k u v) (hk : k + 4 ≤ 2051) : wpX_token (fun r => wpY_token (fun r' => r' = r ∧ i_Rel (k + 4) u v) v) u := by
  obtain ⟨f_n, f_p, f_q, f_full, f_solved, f_won, f_lost, f_playing, f_tokenState, f_awaitedNumber, a_owners, a_succ, a_assume, a_guar, a_siegeLayers, a_doomOf, a_debtOf, a_distOf⟩ := u
  obtain ⟨g_n, g_p, g_q, g_solved, g_token, g_awaited, b_ownerOf, b_moveMask, b_assumption, b_guarantee, b_doomOf, b_mark⟩ := v
  have I0 := I
  obtain ⟨n, p, q, EN, E, A, G, R⟩ := I0
  exact rl_token R I
theorem i_vc_awaited {k : Nat} {u : SX} {v : SY} (I : i_Rel k u v) (hk : k + 4 ≤ 2051) : wpX_awaited (fun r => wpY_awaited (fun r' => r' = r ∧ i_Rel (k + 4) u v) v) u := by
  obtain ⟨f_n, f_p, f_q, f_full, f_solved, f_won, f_lost, f_playing, f_tokenState, f_awaitedNumber, a_owners, a_succ, a_assume, a_guar, a_siegeLayers, a_doomOf, a_debtOf, a_distOf⟩ := u
  obtain ⟨g_n, g_p, g_q, g_solved, g_token, g_awaited, b_ownerOf, b_moveMask, b_assumption, b_guarantee, b_doomOf, b_mark⟩ := v
  have I0 := I
  obtain ⟨n, p, q, EN, E, A, G, R⟩ := I0
  exact rl_awaited R I
end
