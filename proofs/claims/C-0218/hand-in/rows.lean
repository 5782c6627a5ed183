section
/-! rows of kit/rows (pasted): PURE-ROWS, BITS -/
theorem pk_us {f : Nat → Int32} {k : Nat} {x : Int32} : upd f k x k = x := if_pos rfl
theorem pk_un {f : Nat → Int32} {k j : Nat} {x : Int32} (h : j ≠ k) : upd f k x j = f j := if_neg h
theorem pk_sub {a b : Nat} (h : b ≤ a) : nI a - nI b = nI (a - b) := by
  obtain ⟨c, rfl⟩ : ∃ c, a = c + b := ⟨a - b, by omega⟩
  rw [← nI_add, Int32.add_sub_cancel, Nat.add_sub_cancel]
theorem pk_m1 (n : Nat) : nI (n + 1) + (-1) = nI n := by
  rw [← nI_1, Int32.add_assoc, show (1 : Int32) + (-1) = 0 from rfl, Int32.add_zero]
theorem pk_mul (a b : Nat) : nI a * nI b = nI (a * b) := (Int32.ofNat_mul a b).symm
theorem pk_ix (x : Int32) {n : Nat} (hn : n < 2 ^ 31) : x < 0 ∨ nI n ≤ x ∨ ∃ j : Nat, j < n ∧ x = nI j := by
  by_cases h : x < 0
  · exact Or.inl h
  · obtain ⟨j, hj, rfl⟩ := nI_of h
    by_cases h2 : j < n
    · exact Or.inr (Or.inr ⟨j, h2, rfl⟩)
    · exact Or.inr (Or.inl (nI_le (by omega) hj))
theorem pk_le {x y : Int32} {A B : Prop} (a b : Nat) (f : a ≤ b → A) (g : b < a → B) (hx : x = nI a := by rfl) (hy : y = nI b := by rfl) (ha : a < 2 ^ 31 := by omega) (hb : b < 2 ^ 31 := by omega) : (x ≤ y → A) ∧ (¬ x ≤ y → B) := by
  subst hx hy
  rw [nI_leI ha hb]
  exact ⟨f, fun z => g (by omega)⟩
theorem pk_lt {x y : Int32} {A B : Prop} (a b : Nat) (f : a < b → A) (g : b ≤ a → B) (hx : x = nI a := by rfl) (hy : y = nI b := by rfl) (ha : a < 2 ^ 31 := by omega) (hb : b < 2 ^ 31 := by omega) : (x < y → A) ∧ (¬ x < y → B) := by
  subst hx hy
  rw [nI_ltI ha hb]
  exact ⟨f, fun z => g (by omega)⟩
theorem pk_eq {x y : Int32} {A B : Prop} (a b : Nat) (f : a = b → A) (g : a ≠ b → B) (hx : x = nI a := by rfl) (hy : y = nI b := by rfl) (ha : a < 2 ^ 31 := by omega) (hb : b < 2 ^ 31 := by omega) : (x = y → A) ∧ (¬ x = y → B) := by
  subst hx hy
  rw [nI_eq ha hb]
  exact ⟨f, g⟩
theorem pk_in {x : Int32} (n N : Nat) (h : n < N) (hx : x = nI n := by rfl) (hN : N < 2 ^ 31 := by omega) : vp_in x N := by
  subst hx
  exact vp_in_nI h hN
theorem pk_cl {x : Int32} (n : Nat) (hx : x = nI n := by rfl) (h : n < 2 ^ 31 := by omega) : x.toNatClampNeg = n := by
  subst hx
  exact nI_clamp h
theorem pk_tn {n : Nat} (h : n < 2 ^ 32) : (nI n).toBitVec.toNat = n := Nat.mod_eq_of_lt h
theorem pk_and (x : Int32) {m : Int32} (k : Nat) (hm : m.toBitVec.toNat = 2 ^ k - 1) : x &&& m = nI (x.toBitVec.toNat % 2 ^ k) := by
  apply Int32.toBitVec_inj.mp
  apply BitVec.eq_of_toNat_eq
  rw [Int32.toBitVec_and, BitVec.toNat_and, hm, Nat.and_two_pow_sub_one_eq_mod]
  show _ = (BitVec.ofNat 32 _).toNat
  rw [BitVec.toNat_ofNat]
  exact (Nat.mod_eq_of_lt (Nat.lt_of_le_of_lt (Nat.mod_le _ _) x.toBitVec.isLt)).symm
theorem pk_andN {n : Nat} (h : n < 2 ^ 32) {m : Int32} (k : Nat) (hm : m.toBitVec.toNat = 2 ^ k - 1) : nI n &&& m = nI (n % 2 ^ k) := by
  rw [pk_and _ k hm, pk_tn h]
theorem pk_andE (x : Int32) {m : Int32} (k : Nat) (hm : m.toBitVec.toNat = 2 ^ k - 1) : ∃ j : Nat, j < 2 ^ k ∧ x &&& m = nI j := ⟨_, Nat.mod_lt _ (Nat.two_pow_pos k), pk_and x k hm⟩
theorem pk_andIn (x : Int32) {m : Int32} (k : Nat) (hm : m.toBitVec.toNat = 2 ^ k - 1) (hk : k ≤ 30) : vp_in (x &&& m) (2 ^ k) := by
  obtain ⟨j, hj, e⟩ := pk_andE x k hm
  rw [e]
  exact vp_in_nI hj (Nat.lt_of_le_of_lt (Nat.pow_le_pow_right (by decide) hk) (by decide))
theorem pk_shl (a s : Int32) (k : Nat) (hs : (s.toBitVec.smod 32).toNat = k) : (a <<< s).toBitVec.toNat = a.toBitVec.toNat * 2 ^ k % 2 ^ 32 := by
  show (a.toBitVec <<< (s.toBitVec.smod 32).toNat).toNat = _
  rw [hs, BitVec.toNat_shiftLeft, Nat.shiftLeft_eq]
theorem pk_shlN {n : Nat} (s : Int32) (k : Nat) (hs : (s.toBitVec.smod 32).toNat = k) (h : n * 2 ^ k < 2 ^ 32) : nI n <<< s = nI (n * 2 ^ k) := by
  apply Int32.toBitVec_inj.mp
  apply BitVec.eq_of_toNat_eq
  have hn : n < 2 ^ 32 := Nat.lt_of_le_of_lt (Nat.le_mul_of_pos_right n (Nat.two_pow_pos k)) h
  rw [pk_shl _ _ k hs, pk_tn hn, pk_tn h, Nat.mod_eq_of_lt h]
theorem pk_shr (a s : Int32) (k : Nat) (hs : (s.toBitVec.smod 32).toNat = k) : (a >>> s).toInt = a.toInt >>> k := by
  show (a.toBitVec.sshiftRight (s.toBitVec.smod 32).toNat).toInt = _
  rw [hs, BitVec.toInt_sshiftRight]
  rfl
theorem pk_shrN {n : Nat} (h : n < 2 ^ 31) (s : Int32) (k : Nat) (hs : (s.toBitVec.smod 32).toNat = k) : nI n >>> s = nI (n / 2 ^ k) := by
  apply Int32.toInt_inj.mp
  have h2 : n / 2 ^ k ≤ n := Nat.div_le_self _ _
  rw [pk_shr _ _ k hs, nI_toInt h, nI_toInt (by omega), Int.shiftRight_eq_div_pow]
  rfl
def bt (x : Int32) (i : Nat) : Bool := x.toBitVec.getLsbD i
theorem b_ext {x y : Int32} (h : ∀ i, i < 32 → bt x i = bt y i) : x = y := Int32.toBitVec_inj.mp (BitVec.eq_of_getLsbD_eq (fun i hi => h i hi))
theorem b_or (x y : Int32) (i : Nat) : bt (x ||| y) i = (bt x i || bt y i) := by unfold bt; rw [Int32.toBitVec_or, BitVec.getLsbD_or]
theorem b_and (x y : Int32) (i : Nat) : bt (x &&& y) i = (bt x i && bt y i) := by unfold bt; rw [Int32.toBitVec_and, BitVec.getLsbD_and]
theorem b_xor (x y : Int32) (i : Nat) : bt (x ^^^ y) i = (bt x i ^^ bt y i) := by unfold bt; rw [Int32.toBitVec_xor, BitVec.getLsbD_xor]
theorem b_big {x : Int32} {i : Nat} (h : 32 ≤ i) : bt x i = false := BitVec.getLsbD_of_ge _ _ h
theorem b_m1 : ∀ i, i < 32 → bt (-1) i = true := by decide +kernel
theorem b_0 (i : Nat) : bt 0 i = false := BitVec.getLsbD_zero
theorem s_l : ∀ n, n < 32 → ((nI n &&& 31).toBitVec.smod 32).toNat = n := by decide +kernel
theorem b_shl (n : Nat) (hn : n < 32) (x : Int32) {i : Nat} (hi : i < 32) : bt (x <<< (nI n &&& 31)) i = (decide (n ≤ i) && bt x (i - n)) := by
  unfold bt
  rw [Int32.toBitVec_shiftLeft]
  show (x.toBitVec <<< ((nI n &&& 31).toBitVec.smod 32).toNat).getLsbD i = _
  rw [s_l n hn, BitVec.getLsbD_shiftLeft]
  rcases Nat.lt_or_ge i n with h | h
  · simp [h, Nat.not_le.mpr h]
  · simp [hi, h, Nat.not_lt.mpr h]
theorem b_sshr (n : Nat) (hn : n < 32) (x : Int32) {i : Nat} (hi : i < 32) : bt (x >>> (nI n &&& 31)) i = if n + i < 32 then bt x (n + i) else bt x 31 := by
  unfold bt
  rw [Int32.toBitVec_shiftRight]
  show (x.toBitVec.sshiftRight ((nI n &&& 31).toBitVec.smod 32).toNat).getLsbD i = _
  rw [s_l n hn, BitVec.getLsbD_sshiftRight, BitVec.msb_eq_getLsbD_last]
  simp [hi]
end
section
/-! the pure store: S slots and a stash of n places hold N blocks, each in one place -/
def om_un (f : Nat → Nat) (k x : Nat) : Nat → Nat := fun j => if j = k then x else f j
theorem om_uns {f : Nat → Nat} {k x : Nat} : om_un f k x k = x := if_pos rfl
theorem om_unn {f : Nat → Nat} {k j x : Nat} (h : j ≠ k) : om_un f k x j = f j := if_neg h
theorem om_nm1 {b : Nat} (h : b < 2 ^ 31) : nI b ≠ -1 := by
  intro e
  have e2 := congrArg Int32.toInt e
  rw [nI_toInt h, show (-1 : Int32).toInt = -1 from by decide] at e2
  omega
theorem om_inj {a b : Nat} (ha : a < 2 ^ 31) (hb : b < 2 ^ 31) (e : nI a = nI b) : a = b := (nI_eq ha hb).mp e
theorem om_self (f : Nat → Int32) (k : Nat) : upd f k (f k) = f := by
  funext j
  by_cases h : j = k
  · rw [h, pk_us]
  · rw [pk_un h]
theorem om_ph : ∀ (N : Nat) (f : Nat → Nat), (∀ i, i ≤ N → f i < N) → (∀ i j, i ≤ N → j ≤ N → f i = f j → i = j) → False := by
  intro N
  induction N with
  | zero => intro f h _; exact absurd (h 0 (Nat.le_refl 0)) (Nat.not_lt_zero _)
  | succ N ih =>
    intro f h hi
    refine ih (fun i => if f i = N then f (N + 1) else f i) ?_ ?_
    · intro i hiN
      have h1 := h i (by omega)
      have h2 := h (N + 1) (by omega)
      have h3 := hi i (N + 1) (by omega) (by omega)
      by_cases e : f i = N
      · rw [if_pos e]
        have h4 : f (N + 1) ≠ N := by
          intro z
          have := h3 (by omega)
          omega
        omega
      · rw [if_neg e]; omega
    · intro i j a b e
      have k1 := hi i (N + 1) (by omega) (by omega)
      have k2 := hi j (N + 1) (by omega) (by omega)
      have k3 := hi i j (by omega) (by omega)
      by_cases e1 : f i = N
      · by_cases e2 : f j = N
        · exact k3 (e1.trans e2.symm)
        · rw [if_pos e1, if_neg e2] at e
          have := k2 e.symm
          omega
      · by_cases e2 : f j = N
        · rw [if_neg e1, if_pos e2] at e
          have := k1 e
          omega
        · rw [if_neg e1, if_neg e2] at e
          exact k3 e
def om_In (N S Z : Nat) (PT : Nat → Nat → Prop) (ow ce tg : Nat → Int32) (n : Nat) (so sc st : Nat → Int32) (V : Nat → Int32) (L pos : Nat → Nat) : Prop :=
  n ≤ N ∧
  (∀ b, b < N → (pos b < S ∧ ow (pos b) = nI b ∧ ce (pos b) = V b ∧ tg (pos b) = nI (L b) ∧ PT (L b) (pos b / Z)) ∨
    (∃ i, i < n ∧ pos b = S + i ∧ so i = nI b ∧ sc i = V b ∧ st i = nI (L b))) ∧
  (∀ s, s < S → ow s = -1 ∨ ∃ b, b < N ∧ ow s = nI b ∧ pos b = s) ∧
  (∀ i, i < n → ∃ b, b < N ∧ so i = nI b ∧ pos b = S + i)
section
variable {N S Z : Nat} {PT : Nat → Nat → Prop} {ow ce tg : Nat → Int32} {n : Nat} {so sc st : Nat → Int32} {V : Nat → Int32} {L pos : Nat → Nat}
/-- the facts at a block in a slot -/
theorem om_slot (I : om_In N S Z PT ow ce tg n so sc st V L pos) {b : Nat} (hb : b < N) (hp : pos b < S) :
    ow (pos b) = nI b ∧ ce (pos b) = V b ∧ tg (pos b) = nI (L b) ∧ PT (L b) (pos b / Z) := by
  rcases I.2.1 b hb with h | ⟨i, _, h, _⟩
  · exact h.2
  · omega
theorem om_stash (I : om_In N S Z PT ow ce tg n so sc st V L pos) {b i : Nat} (hb : b < N) (hp : pos b = S + i) :
    i < n ∧ so i = nI b ∧ sc i = V b ∧ st i = nI (L b) := by
  rcases I.2.1 b hb with h | ⟨j, hj, h, h2⟩
  · have := h.1
    omega
  · have e : j = i := by omega
    subst e
    exact ⟨hj, h2⟩
theorem om_posO (hN : N ≤ 16) (I : om_In N S Z PT ow ce tg n so sc st V L pos) {s b : Nat} (hs : s < S) (hb : b < N) (e : ow s = nI b) : pos b = s := by
  rcases I.2.2.1 s hs with h | ⟨c, hc, h, hp⟩
  · exact absurd (e.symm.trans h) (om_nm1 (by omega))
  · have e2 : b = c := om_inj (by omega) (by omega) (e.symm.trans h)
    rw [e2]; exact hp
theorem om_posS (hN : N ≤ 16) (I : om_In N S Z PT ow ce tg n so sc st V L pos) {i b : Nat} (hi : i < n) (hb : b < N) (e : so i = nI b) : pos b = S + i := by
  obtain ⟨c, hc, h, hp⟩ := I.2.2.2 i hi
  have e2 : b = c := om_inj (by omega) (by omega) (e.symm.trans h)
  rw [e2]; exact hp
/-- an occupied slot: the stash has room -/
theorem om_room (I : om_In N S Z PT ow ce tg n so sc st V L pos) {s : Nat} (hs : s < S) (ho : ow s ≠ -1) : n < N := by
  rcases Nat.lt_or_ge n N with h | h
  · exact h
  · exfalso
    have hn : n = N := Nat.le_antisymm I.1 h
    subst hn
    rcases I.2.2.1 s hs with h1 | ⟨b0, hb0, _, hp0⟩
    · exact ho h1
    · have H : ∀ i, ∃ b, b < n ∧ (i < n → pos b = S + i) := by
        intro i
        by_cases hi : i < n
        · obtain ⟨b, hb, _, hp⟩ := I.2.2.2 i hi
          exact ⟨b, hb, fun _ => hp⟩
        · exact ⟨b0, hb0, fun z => absurd z hi⟩
      obtain ⟨g, hg⟩ : ∃ g : Nat → Nat, ∀ i, g i < n ∧ (i < n → pos (g i) = S + i) := ⟨fun i => Classical.choose (H i), fun i => Classical.choose_spec (H i)⟩
      refine om_ph n (fun i => if i < n then g i else b0) ?_ ?_
      · intro i _
        by_cases hi : i < n
        · rw [if_pos hi]; exact (hg i).1
        · rw [if_neg hi]; exact hb0
      · intro i j hi hj e
        by_cases h1 : i < n
        · have p1 := (hg i).2 h1
          by_cases h2 : j < n
          · have p2 := (hg j).2 h2
            rw [if_pos h1, if_pos h2] at e
            rw [e] at p1
            omega
          · rw [if_pos h1, if_neg h2] at e
            rw [e] at p1
            omega
        · by_cases h2 : j < n
          · have p2 := (hg j).2 h2
            rw [if_neg h1, if_pos h2] at e
            rw [← e] at p2
            omega
          · omega
/-- a block goes from its slot to the stash -/
theorem om_mv (hN : N ≤ 16) (I : om_In N S Z PT ow ce tg n so sc st V L pos) {s : Nat} (hs : s < S) (ho : ow s ≠ -1) :
    n < N ∧ ∃ pos', om_In N S Z PT (upd ow s (-1)) ce tg (n + 1) (upd so n (ow s)) (upd sc n (ce s)) (upd st n (tg s)) V L pos' := by
  have hn := om_room I hs ho
  refine ⟨hn, ?_⟩
  rcases I.2.2.1 s hs with h1 | ⟨b0, hb0, h0, hp0⟩
  · exact absurd h1 ho
  · have F0 := om_slot I hb0 (by omega)
    rw [hp0] at F0
    refine ⟨om_un pos b0 (S + n), hn, ?_, ?_, ?_⟩
    · intro b hb
      by_cases e : b = b0
      · subst e
        right
        refine ⟨n, Nat.lt_succ_self n, om_uns, ?_, ?_, ?_⟩
        · rw [pk_us]; exact h0
        · rw [pk_us]; exact F0.2.1
        · rw [pk_us]; exact F0.2.2.1
      · rw [om_unn e]
        rcases I.2.1 b hb with h | ⟨i, hi, h, h2⟩
        · left
          have hne : pos b ≠ s := by
            intro z
            have z2 := h.2.1
            rw [z, h0] at z2
            exact e (om_inj (by omega) (by omega) z2.symm)
          rw [pk_un hne]
          exact h
        · right
          refine ⟨i, by omega, h, ?_⟩
          have hne : i ≠ n := by omega
          rw [pk_un hne, pk_un hne, pk_un hne]
          exact h2
    · intro q hq
      by_cases e : q = s
      · left
        rw [e, pk_us]
      · rw [pk_un e]
        rcases I.2.2.1 q hq with h | ⟨b, hb, h, hp⟩
        · exact Or.inl h
        · right
          refine ⟨b, hb, h, ?_⟩
          have hne : b ≠ b0 := by
            intro z
            rw [z] at hp
            omega
          rw [om_unn hne]
          exact hp
    · intro i hi
      by_cases e : i = n
      · refine ⟨b0, hb0, ?_, ?_⟩
        · rw [e, pk_us]; exact h0
        · rw [e, om_uns]
      · obtain ⟨b, hb, h, hp⟩ := I.2.2.2 i (by omega)
        refine ⟨b, hb, ?_, ?_⟩
        · rw [pk_un e]; exact h
        · have hne : b ≠ b0 := by
            intro z
            rw [z] at hp
            omega
          rw [om_unn hne]
          exact hp
/-- cells of empty slots don't matter -/
theorem om_cg (hN : N ≤ 16) (I : om_In N S Z PT ow ce tg n so sc st V L pos) {ce' : Nat → Int32} (h : ∀ q, q < S → ow q ≠ -1 → ce' q = ce q) :
    om_In N S Z PT ow ce' tg n so sc st V L pos := by
  refine ⟨I.1, ?_, I.2.2⟩
  intro b hb
  rcases I.2.1 b hb with h1 | h1
  · left
    refine ⟨h1.1, h1.2.1, ?_, h1.2.2.2⟩
    rw [h (pos b) h1.1 (by rw [h1.2.1]; exact om_nm1 (by omega))]
    exact h1.2.2.1
  · exact Or.inr h1
/-- a stashed block goes into an empty slot of its path; the last one takes its place -/
theorem om_se (hN : N ≤ 16) (I : om_In N S Z PT ow ce tg n so sc st V L pos) {s i : Nat} (hs : s < S) (ho : ow s = -1) (hi : i < n)
    (hp : ∀ b, b < N → st i = nI (L b) → PT (L b) (s / Z)) {ce' : Nat → Int32} (hc : ce' s = sc i) (hc' : ∀ q, q < S → q ≠ s → ow q ≠ -1 → ce' q = ce q) :
    ∃ pos', om_In N S Z PT (upd ow s (so i)) ce' (upd tg s (st i)) (n - 1) (upd so i (so (n - 1))) (upd sc i (sc (n - 1))) (upd st i (st (n - 1))) V L pos' := by
  obtain ⟨b0, hb0, h0, hp0⟩ := I.2.2.2 i hi
  obtain ⟨b1, hb1, h1, hp1⟩ := I.2.2.2 (n - 1) (by omega)
  have F0 := om_stash I hb0 hp0
  have F1 := om_stash I hb1 hp1
  have hn := I.1
  have PA : om_un (om_un pos b1 (S + i)) b0 s b0 = s := om_uns
  have PB : b1 ≠ b0 → om_un (om_un pos b1 (S + i)) b0 s b1 = S + i := by
    intro z
    rw [om_unn z, om_uns]
  have PC : ∀ b, b ≠ b0 → b ≠ b1 → om_un (om_un pos b1 (S + i)) b0 s b = pos b := by
    intro b z1 z2
    rw [om_unn z1, om_unn z2]
  have D : i ≠ n - 1 → b1 ≠ b0 := by
    intro z e
    rw [e] at hp1
    omega
  have D' : b1 ≠ b0 → i ≠ n - 1 := by
    intro z e
    rw [← e] at h1
    exact z (om_inj (by omega) (by omega) (h1.symm.trans h0))
  generalize om_un (om_un pos b1 (S + i)) b0 s = pos' at PA PB PC
  refine ⟨pos', by omega, ?_, ?_, ?_⟩
  · intro b hb
    by_cases e0 : b = b0
    · subst e0
      left
      rw [PA, pk_us, pk_us]
      exact ⟨hs, h0, hc.trans F0.2.2.1, F0.2.2.2, hp b hb F0.2.2.2⟩
    · by_cases e1 : b = b1
      · subst e1
        right
        have z := D' e0
        refine ⟨i, by omega, PB e0, ?_⟩
        rw [pk_us, pk_us, pk_us]
        exact F1.2
      · rw [PC b e0 e1]
        rcases I.2.1 b hb with h | ⟨j, hj, h, h2⟩
        · left
          have hq : ow (pos b) ≠ -1 := by
            rw [h.2.1]
            exact om_nm1 (by omega)
          have hne : pos b ≠ s := by
            intro z
            rw [z] at hq
            exact hq ho
          rw [pk_un hne, pk_un hne, hc' _ h.1 hne hq]
          exact h
        · right
          have n1 : j ≠ i := by
            intro z
            rw [z] at h2
            exact e0 (om_inj (by omega) (by omega) (h2.1.symm.trans h0))
          have n2 : j ≠ n - 1 := by
            intro z
            rw [z] at h2
            exact e1 (om_inj (by omega) (by omega) (h2.1.symm.trans h1))
          refine ⟨j, by omega, h, ?_⟩
          rw [pk_un n1, pk_un n1, pk_un n1]
          exact h2
  · intro q hq
    by_cases e : q = s
    · right
      refine ⟨b0, hb0, ?_, ?_⟩
      · rw [e, pk_us]; exact h0
      · rw [PA, e]
    · rw [pk_un e]
      rcases I.2.2.1 q hq with h | ⟨b, hb, h, hpb⟩
      · exact Or.inl h
      · right
        refine ⟨b, hb, h, ?_⟩
        have z1 : b ≠ b0 := by
          intro z
          rw [z] at hpb
          omega
        have z2 : b ≠ b1 := by
          intro z
          rw [z] at hpb
          omega
        rw [PC b z1 z2]
        exact hpb
  · intro j hj
    by_cases e : j = i
    · have z := D (by omega)
      refine ⟨b1, hb1, ?_, ?_⟩
      · rw [e, pk_us]; exact h1
      · rw [PB z, e]
    · obtain ⟨b, hb, h, hpb⟩ := I.2.2.2 j (by omega)
      have z1 : b ≠ b0 := by
        intro z
        rw [z] at hpb
        omega
      have z2 : b ≠ b1 := by
        intro z
        rw [z] at hpb
        omega
      refine ⟨b, hb, ?_, ?_⟩
      · rw [pk_un e]; exact h
      · rw [PC b z1 z2]; exact hpb
/-- a block whose path is empty is in the stash -/
theorem om_st (hN : N ≤ 16) (I : om_In N S Z PT ow ce tg n so sc st V L pos) {b : Nat} (hb : b < N) (h : ∀ q, q < S → PT (L b) (q / Z) → ow q = -1) :
    ∃ i, i < n ∧ pos b = S + i ∧ so i = nI b ∧ sc i = V b ∧ st i = nI (L b) := by
  rcases I.2.1 b hb with h1 | h1
  · have z := h (pos b) h1.1 h1.2.2.2.2
    rw [h1.2.1] at z
    exact absurd z (om_nm1 (by omega))
  · exact h1
/-- a stashed block takes a new value and a new leaf -/
theorem om_ch (hN : N ≤ 16) (I : om_In N S Z PT ow ce tg n so sc st V L pos) {b i l : Nat} {x : Int32} (hb : b < N) (hp : pos b = S + i) :
    om_In N S Z PT ow ce tg n so (upd sc i x) (upd st i (nI l)) (upd V b x) (om_un L b l) pos := by
  have F := om_stash I hb hp
  refine ⟨I.1, ?_, I.2.2⟩
  intro c hc
  by_cases e : c = b
  · subst e
    right
    refine ⟨i, F.1, hp, F.2.1, ?_, ?_⟩
    · rw [pk_us, pk_us]
    · rw [pk_us, om_uns]
  · rw [pk_un e, om_unn e]
    rcases I.2.1 c hc with h | ⟨j, hj, h, h2⟩
    · exact Or.inl h
    · right
      have z : j ≠ i := by
        intro z
        rw [z] at h2
        exact e (om_inj (by omega) (by omega) (h2.1.symm.trans F.2.1))
      refine ⟨j, hj, h, ?_⟩
      rw [pk_un z, pk_un z]
      exact h2
/-- the leaf of a stashed place -/
theorem om_tag (I : om_In N S Z PT ow ce tg n so sc st V L pos) {i : Nat} (hi : i < n) : ∃ b, b < N ∧ so i = nI b ∧ st i = nI (L b) := by
  obtain ⟨b, hb, h, hp⟩ := I.2.2.2 i hi
  exact ⟨b, hb, h, (om_stash I hb hp).2.2.2⟩
end
end
section
/-! the main tree: buckets, pads, reading and writing a path -/
def om_bk (l a : Nat) : Nat := (8 + l) / 2 ^ (3 - a)
def om_P (l k : Nat) : Prop := ∃ a, a < 4 ∧ k = om_bk l a
theorem om_bkI : ∀ l, l < 8 → ∀ a, a < 4 → ((8 : Int32) + nI l) >>> (((3 : Int32) - nI a) &&& 31) = nI (om_bk l a) := by decide +kernel
theorem om_bkR : ∀ l, l < 8 → ∀ a, a < 4 → 1 ≤ om_bk l a ∧ om_bk l a < 16 := by decide +kernel
theorem om_bkD : ∀ l, l < 8 → ∀ a, a < 4 → ∀ b, b < 4 → om_bk l a = om_bk l b → a = b := by decide +kernel
theorem om_bkt {post : Int32 → Prop} {l a : Nat} (hl : l < 8) (ha : a < 4) (h : post (nI (om_bk l a))) : wpX_bucketAt post (nI l) (nI a) := by
  unfold wpX_bucketAt
  rw [om_bkI l hl a ha]
  exact h
def om_lv : Nat → Int32
  | 0 => -1
  | c + 1 => nI c
theorem om_lv1 (c : Nat) : nI c + (-1) = om_lv c := by
  cases c with
  | zero => decide
  | succ c => exact pk_m1 c
def om_pa (x : Int32) : Int32 := (x ^^^ ((x.toUInt32 >>> ((15 : Int32).toUInt32 &&& Int32.toUInt32 31)).toInt32)) * 668265263
def om_pb (x : Int32) : Int32 := (x ^^^ ((x.toUInt32 >>> ((13 : Int32).toUInt32 &&& Int32.toUInt32 31)).toInt32)) * 1103515245
def om_pc (x : Int32) : Int32 := x ^^^ ((x.toUInt32 >>> ((16 : Int32).toUInt32 &&& Int32.toUInt32 31)).toInt32)
def om_pd (k v s : Int32) : Int32 := om_pc (om_pb (om_pa ((k + (s * 1640531527)) + (v * 374761393))))
theorem om_xx (a p : Int32) : (a ^^^ p) ^^^ p = a := by
  apply b_ext
  intro i _
  rw [b_xor, b_xor]
  cases bt a i <;> cases bt p i <;> rfl
theorem om_pad {post : Int32 → Prop} {fs fm fr fk ft : Int32} {ow ce tg ve so sc st mo mc mt no nc nt wl sn sr : Nat → Int32} {s : Nat} (hs : s < 64) (h : post (om_pd fk (ve (s / 4)) (nI s))) : wpX_pad post (fs, fm, fr, fk, ft, ow, ce, tg, ve, so, sc, st, mo, mc, mt, no, nc, nt, wl, sn, sr) (nI s) := by
  have e : nI s >>> ((2 : Int32) &&& 31) = nI (s / 4) := pk_shrN (by omega) _ 2 (by decide)
  have c : (nI (s / 4)).toNatClampNeg = s / 4 := nI_clamp (by omega)
  have v : vp_in (nI (s / 4)) 16 := vp_in_nI (by omega) (by omega)
  unfold wpX_pad
  dsimp only
  rw [e, c]
  exact ⟨v, nm_e (nm_e (nm_e h))⟩
theorem om_next {post : Int32 → SX → Prop} {fs fm fr fk ft : Int32} {ow ce tg ve so sc st mo mc mt no nc nt wl sn sr : Nat → Int32} (h : ∀ r fr', post r (fs, fm, fr', fk, ft, ow, ce, tg, ve, so, sc, st, mo, mc, mt, no, nc, nt, wl, sn, sr)) : wpX_next post (fs, fm, fr, fk, ft, ow, ce, tg, ve, so, sc, st, mo, mc, mt, no, nc, nt, wl, sn, sr) := by
  unfold wpX_next
  dsimp only
  intro _ _ _ _ _ _
  exact h _ _
theorem om_m4 (k : Nat) : (4 : Int32) * nI k = nI (4 * k) := by
  rw [show (4 : Int32) = nI 4 from rfl, pk_mul]
theorem om_m44 (k : Nat) : (4 : Int32) * nI k + 4 = nI (4 * k + 4) := by
  rw [om_m4, show (4 : Int32) = nI 4 from rfl, nI_add]
def om_M (V : Nat → Int32) (L : Nat → Nat) (fk : Int32) (n : Nat) (ow ce tg ve so sc st : Nat → Int32) : Prop :=
  ∃ pos, om_In 16 64 4 om_P ow (fun s => ce s ^^^ om_pd fk (ve (s / 4)) (nI s)) tg n so sc st V L pos
theorem om_Mn {V : Nat → Int32} {L : Nat → Nat} {fk : Int32} {n : Nat} {ow ce tg ve so sc st : Nat → Int32} (h : om_M V L fk n ow ce tg ve so sc st) : n ≤ 16 := by
  obtain ⟨pos, I⟩ := h
  exact I.1
theorem om_Mt {V : Nat → Int32} {L : Nat → Nat} {fk : Int32} {n : Nat} {ow ce tg ve so sc st : Nat → Int32} (h : om_M V L fk n ow ce tg ve so sc st) (hL : ∀ b, b < 16 → L b < 8) :
    ∀ i, i < n → ∃ t, t < 8 ∧ st i = nI t := by
  obtain ⟨pos, I⟩ := h
  intro i hi
  obtain ⟨b, hb, _, e⟩ := om_tag I hi
  exact ⟨L b, hL b hb, e⟩
/-- cells and versions where the slot is empty don't matter -/
theorem om_Mc {V : Nat → Int32} {L : Nat → Nat} {fk : Int32} {n : Nat} {ow ce tg ve so sc st ce' ve' : Nat → Int32} (h : om_M V L fk n ow ce tg ve so sc st)
    (hc : ∀ q, q < 64 → ow q ≠ -1 → ce' q = ce q ∧ ve' (q / 4) = ve (q / 4)) : om_M V L fk n ow ce' tg ve' so sc st := by
  obtain ⟨pos, I⟩ := h
  refine ⟨pos, om_cg (by omega) I ?_⟩
  intro q hq ho
  obtain ⟨e1, e2⟩ := hc q hq ho
  rw [e1, e2]
/-- settling -/
theorem om_Ms {V : Nat → Int32} {L : Nat → Nat} {fk : Int32} {n : Nat} {ow ce tg ve so sc st : Nat → Int32} (h : om_M V L fk n ow ce tg ve so sc st)
    (hL : ∀ b, b < 16 → L b < 8) {i s t : Nat} (hi : i < n) (hs : s < 64) (ho : ow s = -1) (ht : t < 8) (et : st i = nI t) (hp : om_P t (s / 4)) :
    om_M V L fk (n - 1) (upd ow s (so i)) (upd ce s (sc i ^^^ om_pd fk (ve (s / 4)) (nI s))) (upd tg s (st i)) ve (upd so i (so (n - 1))) (upd sc i (sc (n - 1))) (upd st i (st (n - 1))) := by
  obtain ⟨pos, I⟩ := h
  refine om_se (by omega) I hs ho hi ?_ ?_ ?_
  · intro b hb e
    have hb8 := hL b hb
    have e2 : L b = t := om_inj (by omega) (by omega) (e.symm.trans et)
    rw [e2]
    exact hp
  · rw [pk_us, om_xx]
  · intro q _ hne _
    rw [pk_un hne]
section
variable {V : Nat → Int32} {L : Nat → Nat} {fm fr fk : Int32} {ce tg ve mo mc mt no nc nt wl sn sr : Nat → Int32}
theorem om_r28 {post : SX → Prop} {J2 : Int32 → Int32 → Int32 → (Nat → Int32) → (Nat → Int32) → (Nat → Int32) → (Nat → Int32) → (Nat → Int32) → (Nat → Int32) → (Nat → Int32) → (Nat → Int32) → (Nat → Int32) → (Nat → Int32) → (Nat → Int32) → (Nat → Int32) → (Nat → Int32) → (Nat → Int32) → (Nat → Int32) → (Nat → Int32) → Prop} {x1 ft : Int32} {k a : Nat} (hk1 : 1 ≤ k) (hk2 : k < 16) : ∀ (d j : Nat), j + d = 4 →
    ∀ (E : Nat → Prop) (n : Nat) (ow so sc st : Nat → Int32), om_M V L fk n ow ce tg ve so sc st → (∀ q, E q → ow q = -1) →
    (∀ (n' : Nat) (ow' so' sc' st' : Nat → Int32), om_M V L fk n' ow' ce tg ve so' sc' st' → (∀ q, E q ∨ (4 * k + j ≤ q ∧ q < 4 * k + 4) → ow' q = -1) →
      J2 (nI (a + 1)) (nI n') ft ow' ce tg ve so' sc' st' mo mc mt no nc nt wl sn sr) →
    ∀ F, d < F → wX_readPath_28 post J2 x1 (nI a) (nI k) fm fr fk ft F (nI (4 * k + j)) (nI n) ow ce tg ve so sc st mo mc mt no nc nt wl sn sr := by
  intro d
  induction d with
  | zero =>
    intro j hj E n ow so sc st hM hE hK F hF
    obtain ⟨F, rfl⟩ : ∃ G, F = G + 1 := ⟨F - 1, by omega⟩
    have ej : j = 4 := by omega
    subst ej
    have h1 : (4 : Int32) * nI k + 4 ≤ nI (4 * k + 4) := by
      rw [om_m44]
      exact nI_le (Nat.le_refl _) (by omega)
    rw [wX_readPath_28]
    dsimp only
    refine br_t h1 (nm_r (nI_1 a) ?_)
    refine hK n ow so sc st hM ?_
    intro q hq
    rcases hq with h | h
    · exact hE q h
    · omega
  | succ d ih =>
    intro j hj E n ow so sc st hM hE hK F hF
    obtain ⟨F, rfl⟩ : ∃ G, F = G + 1 := ⟨F - 1, by omega⟩
    have hn16 := om_Mn hM
    have hs : 4 * k + j < 64 := by omega
    have h1 : ¬ (4 : Int32) * nI k + 4 ≤ nI (4 * k + j) := by
      rw [om_m44]
      exact nI_ge (by omega) (by omega)
    have c1 : (nI (4 * k + j)).toNatClampNeg = 4 * k + j := nI_clamp (by omega)
    have c2 : (nI n).toNatClampNeg = n := nI_clamp (by omega)
    have vs : vp_in (nI (4 * k + j)) 64 := vp_in_nI hs (by omega)
    rw [wX_readPath_28]
    dsimp only
    rw [c1, c2]
    refine br_f h1 ⟨vs, br_c (fun z => ?_) (fun z => ?_)⟩
    · refine nm_r (nI_1 _) ?_
      refine ih (j + 1) (by omega) (fun q => E q ∨ q = 4 * k + j) n ow so sc st hM ?_ ?_ F (by omega)
      · intro q hq
        rcases hq with h | h
        · exact hE q h
        · rw [h]; exact z
      · intro n' ow' so' sc' st' hM' hE'
        refine hK n' ow' so' sc' st' hM' ?_
        intro q hq
        refine hE' q ?_
        rcases hq with h | h
        · exact Or.inl (Or.inl h)
        · by_cases e : q = 4 * k + j
          · exact Or.inl (Or.inr e)
          · exact Or.inr (by omega)
    · obtain ⟨pos, I⟩ := hM
      obtain ⟨hn, pos', I'⟩ := om_mv (by omega) I hs z
      have h2 : ¬ (16 : Int32) ≤ nI n := nI_ge (b := 16) hn (by decide)
      have v2 : vp_in (nI n) 16 := vp_in_nI hn (by omega)
      refine br_f h2 ⟨vs, v2, nm_e ⟨vs, om_pad hs ⟨v2, nm_e ⟨vs, v2, nm_e ⟨vs, nm_e (nm_r (nI_1 _) (nm_r (nI_1 _) ?_))⟩⟩⟩⟩⟩
      refine ih (j + 1) (by omega) (fun q => E q ∨ q = 4 * k + j) (n + 1) _ _ _ _ ⟨pos', I'⟩ ?_ ?_ F (by omega)
      · intro q hq
        by_cases e : q = 4 * k + j
        · rw [e, pk_us]
        · rw [pk_un e]
          rcases hq with h | h
          · exact hE q h
          · exact absurd h e
      · intro n' ow' so' sc' st' hM' hE'
        refine hK n' ow' so' sc' st' hM' ?_
        intro q hq
        refine hE' q ?_
        rcases hq with h | h
        · exact Or.inl (Or.inl h)
        · by_cases e : q = 4 * k + j
          · exact Or.inl (Or.inr e)
          · exact Or.inr (by omega)
theorem om_r2 {post : SX → Prop} {l : Nat} (hl : l < 8) : ∀ (d a : Nat), a + d = 4 →
    ∀ (E : Nat → Prop) (n t : Nat) (ow so sc st : Nat → Int32), om_M V L fk n ow ce tg ve so sc st → (∀ q, E q → ow q = -1) →
    (∀ (n' : Nat) (ow' so' sc' st' : Nat → Int32), om_M V L fk n' ow' ce tg ve so' sc' st' → (∀ q, (E q ∨ ∃ a', a ≤ a' ∧ a' < 4 ∧ q / 4 = om_bk l a') → ow' q = -1) →
      post (nI n', fm, fr, fk, nI (t + d), ow', ce, tg, ve, so', sc', st', mo, mc, mt, no, nc, nt, wl, sn, sr)) →
    ∀ F, d < F → wX_readPath_2 post (nI l) fm fr fk F (nI a) (nI n) (nI t) ow ce tg ve so sc st mo mc mt no nc nt wl sn sr := by
  intro d
  induction d with
  | zero =>
    intro a ha E n t ow so sc st hM hE hK F hF
    obtain ⟨F, rfl⟩ : ∃ G, F = G + 1 := ⟨F - 1, by omega⟩
    have h1 : (4 : Int32) ≤ nI a := nI_le (a := 4) (by omega) (by omega)
    rw [wX_readPath_2]
    dsimp only
    refine br_t h1 (hK n ow so sc st hM ?_)
    intro q hq
    rcases hq with h | ⟨a', h⟩
    · exact hE q h
    · omega
  | succ d ih =>
    intro a ha E n t ow so sc st hM hE hK F hF
    obtain ⟨F, rfl⟩ : ∃ G, F = G + 1 := ⟨F - 1, by omega⟩
    have h1 : ¬ (4 : Int32) ≤ nI a := nI_ge (b := 4) (by omega) (by decide)
    have R := om_bkR l hl a (by omega)
    rw [wX_readPath_2]
    dsimp only
    refine br_f h1 (om_bkt hl (by omega) (nm_r (nI_1 t) (nm_r (om_m4 _) ⟨5, ?_⟩)))
    refine om_r28 R.1 R.2 4 0 (by omega) E n ow so sc st hM hE ?_ 5 (by omega)
    intro n' ow' so' sc' st' hM' hE'
    refine ih (a + 1) (by omega) (fun q => E q ∨ q / 4 = om_bk l a) n' (t + 1) ow' so' sc' st' hM' ?_ ?_ F (by omega)
    · intro q hq
      refine hE' q ?_
      rcases hq with h | h
      · exact Or.inl h
      · exact Or.inr (by omega)
    · intro n2 ow2 so2 sc2 st2 hM2 hE2
      have et : t + 1 + d = t + (d + 1) := by omega
      rw [et]
      refine hK n2 ow2 so2 sc2 st2 hM2 ?_
      intro q hq
      refine hE2 q ?_
      rcases hq with h | ⟨a', h3, h4, h5⟩
      · exact Or.inl (Or.inl h)
      · by_cases e : a' = a
        · rw [e] at h5
          exact Or.inl (Or.inr h5)
        · exact Or.inr ⟨a', by omega, h4, h5⟩
theorem om_rp {post : SX → Prop} {l n t : Nat} {ow so sc st : Nat → Int32} (hl : l < 8) (hM : om_M V L fk n ow ce tg ve so sc st)
    (hK : ∀ (n' : Nat) (ow' so' sc' st' : Nat → Int32), om_M V L fk n' ow' ce tg ve so' sc' st' → (∀ q, om_P l (q / 4) → ow' q = -1) →
      post (nI n', fm, fr, fk, nI (t + 4), ow', ce, tg, ve, so', sc', st', mo, mc, mt, no, nc, nt, wl, sn, sr)) :
    wpX_readPath post (nI n, fm, fr, fk, nI t, ow, ce, tg, ve, so, sc, st, mo, mc, mt, no, nc, nt, wl, sn, sr) (nI l) := by
  unfold wpX_readPath
  dsimp only
  refine ⟨5, om_r2 hl 4 0 (by omega) (fun _ => False) n t ow so sc st hM (fun q h => h.elim) ?_ 5 (by omega)⟩
  intro n' ow' so' sc' st' hM' hE'
  refine hK n' ow' so' sc' st' hM' ?_
  intro q hq
  obtain ⟨a, ha, e⟩ := hq
  exact hE' q (Or.inr ⟨a, Nat.zero_le a, ha, e⟩)
end
end
section
/-! the main tree: a fitting block, settling it, writing a path -/
section
variable {V : Nat → Int32} {L : Nat → Nat}
theorem om_f2 {post : Int32 → Prop} {fm fr fk ft : Int32} {ow ce tg ve so sc st mo mc mt no nc nt wl sn sr : Nat → Int32} {l a n : Nat} (hl : l < 8) (ha : a < 4) (hn : n ≤ 16) (ht : ∀ i, i < n → ∃ t, t < 8 ∧ st i = nI t) (h0 : post (-1))
    (h1 : ∀ i t, i < n → t < 8 → st i = nI t → om_bk t a = om_bk l a → post (nI i)) : ∀ d i, i + d = n → ∀ F, d < F →
    wX_fitting_2 post (nI l) (nI a) (nI n) fm fr fk ft ow ce tg ve so sc st mo mc mt no nc nt wl sn sr F (nI i) := by
  intro d
  induction d with
  | zero =>
    intro i hi F hF
    obtain ⟨F, rfl⟩ : ∃ G, F = G + 1 := ⟨F - 1, by omega⟩
    rw [wX_fitting_2]
    dsimp only
    exact br_t (nI_le (by omega) (by omega)) h0
  | succ d ih =>
    intro i hi F hF
    obtain ⟨F, rfl⟩ : ∃ G, F = G + 1 := ⟨F - 1, by omega⟩
    obtain ⟨t, ht8, et⟩ := ht i (by omega)
    have R1 := om_bkR t ht8 a ha
    have R2 := om_bkR l hl a ha
    have c1 : (nI i).toNatClampNeg = i := nI_clamp (by omega)
    rw [wX_fitting_2]
    dsimp only
    rw [c1, et]
    refine br_f (nI_ge (by omega) (by omega)) ⟨vp_in_nI (by omega) (by omega), om_bkt ht8 ha (om_bkt hl ha (br_c (fun z => ?_) (fun z => ?_)))⟩
    · exact h1 i t (by omega) ht8 et (om_inj (by omega) (by omega) z)
    · exact nm_r (nI_1 i) (ih (i + 1) (by omega) F (by omega))
theorem om_fit {post : Int32 → Prop} {fm fr fk ft : Int32} {ow ce tg ve so sc st mo mc mt no nc nt wl sn sr : Nat → Int32} {l a n : Nat} (hl : l < 8) (ha : a < 4) (hn : n ≤ 16) (ht : ∀ i, i < n → ∃ t, t < 8 ∧ st i = nI t) (h0 : post (-1))
    (h1 : ∀ i t, i < n → t < 8 → st i = nI t → om_bk t a = om_bk l a → post (nI i)) : wpX_fitting post (nI n, fm, fr, fk, ft, ow, ce, tg, ve, so, sc, st, mo, mc, mt, no, nc, nt, wl, sn, sr) (nI l) (nI a) := by
  unfold wpX_fitting
  dsimp only
  exact ⟨n + 1, om_f2 hl ha hn ht h0 h1 n 0 (by omega) (n + 1) (by omega)⟩
theorem om_set {post : SX → Prop} {fm fr fk ft : Int32} {ow ce tg ve so sc st mo mc mt no nc nt wl sn sr : Nat → Int32} {i n s : Nat} (hi : i < n) (hn : n ≤ 16) (hs : s < 64)
    (h : post (nI (n - 1), fm, fr, fk, ft, upd ow s (so i), upd ce s (sc i ^^^ om_pd fk (ve (s / 4)) (nI s)), upd tg s (st i), ve, upd so i (so (n - 1)), upd sc i (sc (n - 1)), upd st i (st (n - 1)), mo, mc, mt, no, nc, nt, wl, sn, sr)) :
    wpX_settle post (nI n, fm, fr, fk, ft, ow, ce, tg, ve, so, sc, st, mo, mc, mt, no, nc, nt, wl, sn, sr) (nI i) (nI s) := by
  have c1 : (nI i).toNatClampNeg = i := nI_clamp (by omega)
  have c2 : (nI s).toNatClampNeg = s := nI_clamp (by omega)
  have c3 : (nI (n - 1)).toNatClampNeg = n - 1 := nI_clamp (by omega)
  have vi : vp_in (nI i) 16 := vp_in_nI (by omega) (by omega)
  have vs : vp_in (nI s) 64 := vp_in_nI hs (by omega)
  have vn : vp_in (nI (n - 1)) 16 := vp_in_nI (by omega) (by omega)
  have en : nI n - 1 = nI (n - 1) := by
    obtain ⟨m, rfl⟩ : ∃ m, n = m + 1 := ⟨n - 1, by omega⟩
    exact nI_pred m
  unfold wpX_settle
  dsimp only
  rw [c1, c2]
  refine ⟨vi, vs, nm_e ⟨vi, om_pad hs ⟨vs, nm_e ⟨vi, vs, nm_e (nm_r en ?_)⟩⟩⟩⟩
  rw [c3]
  exact ⟨vn, vi, nm_e ⟨vn, vi, nm_e ⟨vn, vi, nm_e h⟩⟩⟩
variable {fm fk ft : Int32} {ve mo mc mt no nc nt wl sn sr : Nat → Int32}
theorem om_w27 {post : SX → Prop} {J2 : Int32 → Int32 → Int32 → Int32 → Int32 → Int32 → (Nat → Int32) → (Nat → Int32) → (Nat → Int32) → (Nat → Int32) → (Nat → Int32) → (Nat → Int32) → (Nat → Int32) → (Nat → Int32) → (Nat → Int32) → (Nat → Int32) → (Nat → Int32) → (Nat → Int32) → (Nat → Int32) → (Nat → Int32) → (Nat → Int32) → (Nat → Int32) → Prop} {l a k : Nat} (hl : l < 8) (ha : a < 4) (hk : k = om_bk l a) (hL : ∀ b, b < 16 → L b < 8) : ∀ (d j : Nat), j + d = 4 →
    ∀ (n : Nat) (fr : Int32) (ow ce tg so sc st : Nat → Int32), om_M V L fk n ow ce tg ve so sc st → (∀ q, 4 * k + j ≤ q → q < 4 * k + 4 → ow q = -1) →
    (∀ (n' : Nat) (fr' : Int32) (ow' ce' tg' so' sc' st' : Nat → Int32), om_M V L fk n' ow' ce' tg' ve so' sc' st' → (∀ q, q / 4 ≠ k → ow' q = ow q) →
      J2 (om_lv a) (nI n') fm fr' fk ft ow' ce' tg' ve so' sc' st' mo mc mt no nc nt wl sn sr) →
    ∀ F, d < F → wX_writePath_27 post J2 (nI l) (nI a) (nI k) F (nI (4 * k + j)) (nI n) fm fr fk ft ow ce tg ve so sc st mo mc mt no nc nt wl sn sr := by
  have R := om_bkR l hl a ha
  rw [← hk] at R
  intro d
  induction d with
  | zero =>
    intro j hj n fr ow ce tg so sc st hM hE hK F hF
    obtain ⟨F, rfl⟩ : ∃ G, F = G + 1 := ⟨F - 1, by omega⟩
    have ej : j = 4 := by omega
    subst ej
    have h1 : (4 : Int32) * nI k + 4 ≤ nI (4 * k + 4) := by
      rw [om_m44]
      exact nI_le (Nat.le_refl _) (by omega)
    rw [wX_writePath_27]
    dsimp only
    exact br_t h1 (nm_r (om_lv1 a) (hK n fr ow ce tg so sc st hM (fun q _ => rfl)))
  | succ d ih =>
    intro j hj n fr ow ce tg so sc st hM hE hK F hF
    obtain ⟨F, rfl⟩ : ∃ G, F = G + 1 := ⟨F - 1, by omega⟩
    have hn16 := om_Mn hM
    have hs : 4 * k + j < 64 := by omega
    have h1 : ¬ (4 : Int32) * nI k + 4 ≤ nI (4 * k + j) := by
      rw [om_m44]
      exact nI_ge (by omega) (by omega)
    have c1 : (nI (4 * k + j)).toNatClampNeg = 4 * k + j := nI_clamp (by omega)
    have vs : vp_in (nI (4 * k + j)) 64 := vp_in_nI hs (by omega)
    have ho : ow (4 * k + j) = -1 := hE _ (by omega) (by omega)
    have hdiv : (4 * k + j) / 4 = k := by omega
    rw [wX_writePath_27]
    dsimp only
    rw [c1]
    refine br_f h1 (om_fit hl ha hn16 (om_Mt hM hL) ?_ ?_)
    · refine br_t rfl (om_next (fun r fr' => ?_))
      refine And.intro vs (nm_e (nm_r (nI_1 _) ?_))
      refine ih (j + 1) (by omega) n fr' ow (upd ce (4 * k + j) r) tg so sc st ?_ ?_ hK F (by omega)
      · refine om_Mc hM ?_
        intro q hq hq1
        refine ⟨pk_un ?_, rfl⟩
        intro e
        rw [e] at hq1
        exact hq1 ho
      · intro q h2 h3
        exact hE q (by omega) h3
    · intro i t hi ht et eb
      refine br_f (om_nm1 (by omega)) (om_set hi hn16 hs ?_)
      refine nm_r (nI_1 _) ?_
      refine ih (j + 1) (by omega) (n - 1) fr _ _ _ _ _ _ (om_Ms hM hL hi hs ho ht et ?_) ?_ ?_ F (by omega)
      · rw [hdiv]
        exact ⟨a, ha, by rw [hk, eb]⟩
      · intro q h2 h3
        rw [pk_un (by omega)]
        exact hE q (by omega) h3
      · intro n' fr' ow' ce' tg' so' sc' st' hM' hO'
        refine hK n' fr' ow' ce' tg' so' sc' st' hM' ?_
        intro q hq
        rw [hO' q hq]
        refine pk_un ?_
        intro e
        rw [e] at hq
        exact hq hdiv
end
section
variable {V : Nat → Int32} {L : Nat → Nat} {fm fk ft : Int32} {mo mc mt no nc nt wl sn sr : Nat → Int32}
theorem om_w2 {post : SX → Prop} {l : Nat} (hl : l < 8) (hL : ∀ b, b < 16 → L b < 8) : ∀ (c : Nat), c ≤ 4 →
    ∀ (n : Nat) (fr : Int32) (ow ce tg ve so sc st : Nat → Int32), om_M V L fk n ow ce tg ve so sc st → (∀ a, a < c → ∀ q, q / 4 = om_bk l a → ow q = -1) →
    (∀ (n' : Nat) (fr' : Int32) (ow' ce' tg' ve' so' sc' st' : Nat → Int32), om_M V L fk n' ow' ce' tg' ve' so' sc' st' →
      post (nI n', fm, fr', fk, ft, ow', ce', tg', ve', so', sc', st', mo, mc, mt, no, nc, nt, wl, sn, sr)) →
    ∀ F, c < F → wX_writePath_2 post (nI l) F (om_lv c) (nI n) fm fr fk ft ow ce tg ve so sc st mo mc mt no nc nt wl sn sr := by
  intro c
  induction c with
  | zero =>
    intro hc n fr ow ce tg ve so sc st hM hE hK F hF
    obtain ⟨F, rfl⟩ : ∃ G, F = G + 1 := ⟨F - 1, by omega⟩
    rw [wX_writePath_2]
    dsimp only
    have h1 : om_lv 0 < 0 := by decide
    exact br_t h1 (hK n fr ow ce tg ve so sc st hM)
  | succ c ih =>
    intro hc n fr ow ce tg ve so sc st hM hE hK F hF
    obtain ⟨F, rfl⟩ : ∃ G, F = G + 1 := ⟨F - 1, by omega⟩
    have R := om_bkR l hl c (by omega)
    have h1 : ¬ om_lv (c + 1) < 0 := nI_pos (by omega)
    have c1 : (nI (om_bk l c)).toNatClampNeg = om_bk l c := nI_clamp (by omega)
    have v1 : vp_in (nI (om_bk l c)) 16 := vp_in_nI R.2 (by omega)
    rw [wX_writePath_2]
    dsimp only
    refine br_f h1 (om_bkt hl (by omega) ?_)
    rw [c1]
    refine ⟨v1, v1, nm_e (nm_r (om_m4 _) ⟨5, ?_⟩)⟩
    refine om_w27 (V := V) (k := om_bk l c) hl (by omega) rfl hL 4 0 (by omega) n fr ow ce tg so sc st ?_ ?_ ?_ 5 (by omega)
    · refine om_Mc hM ?_
      intro q hq hq1
      refine ⟨rfl, pk_un ?_⟩
      intro e
      exact hq1 (hE c (by omega) q e)
    · intro q h2 h3
      exact hE c (by omega) q (by omega)
    · intro n' fr' ow' ce' tg' so' sc' st' hM' hO'
      refine ih (by omega) n' fr' ow' ce' tg' _ so' sc' st' hM' ?_ hK F (by omega)
      intro a ha q hq
      rw [hO' q ?_]
      · exact hE a (by omega) q hq
      · intro e
        have := om_bkD l hl a (by omega) c (by omega) (hq.symm.trans e)
        omega
theorem om_wp {post : SX → Prop} {l n : Nat} {fr : Int32} {ow ce tg ve so sc st : Nat → Int32} (hl : l < 8) (hL : ∀ b, b < 16 → L b < 8) (hM : om_M V L fk n ow ce tg ve so sc st)
    (hE : ∀ q, om_P l (q / 4) → ow q = -1)
    (hK : ∀ (n' : Nat) (fr' : Int32) (ow' ce' tg' ve' so' sc' st' : Nat → Int32), om_M V L fk n' ow' ce' tg' ve' so' sc' st' →
      post (nI n', fm, fr', fk, ft, ow', ce', tg', ve', so', sc', st', mo, mc, mt, no, nc, nt, wl, sn, sr)) :
    wpX_writePath post (nI n, fm, fr, fk, ft, ow, ce, tg, ve, so, sc, st, mo, mc, mt, no, nc, nt, wl, sn, sr) (nI l) := by
  unfold wpX_writePath
  dsimp only
  exact ⟨5, om_w2 hl hL 4 (by omega) n fr ow ce tg ve so sc st hM (fun a ha q hq => hE q ⟨a, ha, hq⟩) hK 5 (by omega)⟩
end
end
section
/-! the smaller tree: reading and writing a path -/
def om_ck (l a : Nat) : Nat := (4 + l) / 2 ^ (2 - a)
def om_Q (l k : Nat) : Prop := ∃ a, a < 3 ∧ k = om_ck l a
theorem om_ckI : ∀ l, l < 4 → ∀ a, a < 3 → ((4 : Int32) + nI l) >>> (((2 : Int32) - nI a) &&& 31) = nI (om_ck l a) := by decide +kernel
theorem om_ckR : ∀ l, l < 4 → ∀ a, a < 3 → 1 ≤ om_ck l a ∧ om_ck l a < 8 := by decide +kernel
theorem om_ckD : ∀ l, l < 4 → ∀ a, a < 3 → ∀ b, b < 3 → om_ck l a = om_ck l b → a = b := by decide +kernel
theorem om_ckt {post : Int32 → Prop} {l a : Nat} (hl : l < 4) (ha : a < 3) (h : post (nI (om_ck l a))) : wpX_mapBucketAt post (nI l) (nI a) := by
  unfold wpX_mapBucketAt
  rw [om_ckI l hl a ha]
  exact h
theorem om_m2 (k : Nat) : (2 : Int32) * nI k = nI (2 * k) := by
  rw [show (2 : Int32) = nI 2 from rfl, pk_mul]
theorem om_m22 (k : Nat) : (2 : Int32) * nI k + 2 = nI (2 * k + 2) := by
  rw [om_m2, show (2 : Int32) = nI 2 from rfl, nI_add]
def om_N (W : Nat → Int32) (K : Nat → Nat) (m : Nat) (mo mc mt no nc nt : Nat → Int32) : Prop := ∃ pos, om_In 4 16 2 om_Q mo mc mt m no nc nt W K pos
theorem om_Nn {W : Nat → Int32} {K : Nat → Nat} {m : Nat} {mo mc mt no nc nt : Nat → Int32} (h : om_N W K m mo mc mt no nc nt) : m ≤ 4 := by
  obtain ⟨pos, I⟩ := h
  exact I.1
theorem om_Nt {W : Nat → Int32} {K : Nat → Nat} {m : Nat} {mo mc mt no nc nt : Nat → Int32} (h : om_N W K m mo mc mt no nc nt) (hK : ∀ b, b < 4 → K b < 4) :
    ∀ i, i < m → ∃ t, t < 4 ∧ nt i = nI t := by
  obtain ⟨pos, I⟩ := h
  intro i hi
  obtain ⟨b, hb, _, e⟩ := om_tag I hi
  exact ⟨K b, hK b hb, e⟩
theorem om_Ns {W : Nat → Int32} {K : Nat → Nat} {m : Nat} {mo mc mt no nc nt : Nat → Int32} (h : om_N W K m mo mc mt no nc nt) (hK : ∀ b, b < 4 → K b < 4)
    {i s t : Nat} (hi : i < m) (hs : s < 16) (ho : mo s = -1) (ht : t < 4) (et : nt i = nI t) (hp : om_Q t (s / 2)) :
    om_N W K (m - 1) (upd mo s (no i)) (upd mc s (nc i)) (upd mt s (nt i)) (upd no i (no (m - 1))) (upd nc i (nc (m - 1))) (upd nt i (nt (m - 1))) := by
  obtain ⟨pos, I⟩ := h
  refine om_se (by omega) I hs ho hi ?_ pk_us ?_
  · intro b hb e
    have hb8 := hK b hb
    have e2 : K b = t := om_inj (by omega) (by omega) (e.symm.trans et)
    rw [e2]
    exact hp
  · intro q _ hne _
    exact pk_un hne
section
variable {W : Nat → Int32} {K : Nat → Nat} {fs fr fk ft : Int32} {ow ce tg ve so sc st mc mt wl sn sr : Nat → Int32}
theorem om_mr18 {post : SX → Prop} {J2 : Int32 → Int32 → (Nat → Int32) → (Nat → Int32) → (Nat → Int32) → (Nat → Int32) → (Nat → Int32) → (Nat → Int32) → (Nat → Int32) → (Nat → Int32) → (Nat → Int32) → (Nat → Int32) → (Nat → Int32) → (Nat → Int32) → (Nat → Int32) → (Nat → Int32) → (Nat → Int32) → (Nat → Int32) → Prop} {x1 : Int32} {k a : Nat} (hk1 : 1 ≤ k) (hk2 : k < 8) : ∀ (d j : Nat), j + d = 2 →
    ∀ (E : Nat → Prop) (m : Nat) (mo no nc nt : Nat → Int32), om_N W K m mo mc mt no nc nt → (∀ q, E q → mo q = -1) →
    (∀ (m' : Nat) (mo' no' nc' nt' : Nat → Int32), om_N W K m' mo' mc mt no' nc' nt' → (∀ q, E q ∨ (2 * k + j ≤ q ∧ q < 2 * k + 2) → mo' q = -1) →
      J2 (nI (a + 1)) (nI m') ow ce tg ve so sc st mo' mc mt no' nc' nt' wl sn sr) →
    ∀ F, d < F → wX_readMapPath_18 post J2 x1 (nI a) (nI k) fs fr fk ft F (nI (2 * k + j)) (nI m) ow ce tg ve so sc st mo mc mt no nc nt wl sn sr := by
  intro d
  induction d with
  | zero =>
    intro j hj E m mo no nc nt hM hE hK F hF
    obtain ⟨F, rfl⟩ : ∃ G, F = G + 1 := ⟨F - 1, by omega⟩
    have ej : j = 2 := by omega
    subst ej
    have h1 : (2 : Int32) * nI k + 2 ≤ nI (2 * k + 2) := by
      rw [om_m22]
      exact nI_le (Nat.le_refl _) (by omega)
    rw [wX_readMapPath_18]
    dsimp only
    refine br_t h1 (nm_r (nI_1 a) ?_)
    refine hK m mo no nc nt hM ?_
    intro q hq
    rcases hq with h | h
    · exact hE q h
    · omega
  | succ d ih =>
    intro j hj E m mo no nc nt hM hE hK F hF
    obtain ⟨F, rfl⟩ : ∃ G, F = G + 1 := ⟨F - 1, by omega⟩
    have hn4 := om_Nn hM
    have hs : 2 * k + j < 16 := by omega
    have h1 : ¬ (2 : Int32) * nI k + 2 ≤ nI (2 * k + j) := by
      rw [om_m22]
      exact nI_ge (by omega) (by omega)
    have c1 : (nI (2 * k + j)).toNatClampNeg = 2 * k + j := nI_clamp (by omega)
    have c2 : (nI m).toNatClampNeg = m := nI_clamp (by omega)
    have vs : vp_in (nI (2 * k + j)) 16 := vp_in_nI hs (by omega)
    rw [wX_readMapPath_18]
    dsimp only
    rw [c1, c2]
    refine br_f h1 ⟨vs, br_c (fun z => ?_) (fun z => ?_)⟩
    · refine nm_r (nI_1 _) ?_
      refine ih (j + 1) (by omega) (fun q => E q ∨ q = 2 * k + j) m mo no nc nt hM ?_ ?_ F (by omega)
      · intro q hq
        rcases hq with h | h
        · exact hE q h
        · rw [h]; exact z
      · intro m' mo' no' nc' nt' hM' hE'
        refine hK m' mo' no' nc' nt' hM' ?_
        intro q hq
        refine hE' q ?_
        rcases hq with h | h
        · exact Or.inl (Or.inl h)
        · by_cases e : q = 2 * k + j
          · exact Or.inl (Or.inr e)
          · exact Or.inr (by omega)
    · obtain ⟨pos, I⟩ := hM
      obtain ⟨hn, pos', I'⟩ := om_mv (by omega) I hs z
      have h2 : ¬ (4 : Int32) ≤ nI m := nI_ge (b := 4) hn (by decide)
      have v2 : vp_in (nI m) 4 := vp_in_nI hn (by omega)
      refine br_f h2 ⟨vs, v2, nm_e ⟨vs, v2, nm_e ⟨vs, v2, nm_e ⟨vs, nm_e (nm_r (nI_1 _) (nm_r (nI_1 _) ?_))⟩⟩⟩⟩
      refine ih (j + 1) (by omega) (fun q => E q ∨ q = 2 * k + j) (m + 1) _ _ _ _ ⟨pos', I'⟩ ?_ ?_ F (by omega)
      · intro q hq
        by_cases e : q = 2 * k + j
        · rw [e, pk_us]
        · rw [pk_un e]
          rcases hq with h | h
          · exact hE q h
          · exact absurd h e
      · intro m' mo' no' nc' nt' hM' hE'
        refine hK m' mo' no' nc' nt' hM' ?_
        intro q hq
        refine hE' q ?_
        rcases hq with h | h
        · exact Or.inl (Or.inl h)
        · by_cases e : q = 2 * k + j
          · exact Or.inl (Or.inr e)
          · exact Or.inr (by omega)
theorem om_mr2 {post : SX → Prop} {l : Nat} (hl : l < 4) : ∀ (d a : Nat), a + d = 3 →
    ∀ (E : Nat → Prop) (m : Nat) (mo no nc nt : Nat → Int32), om_N W K m mo mc mt no nc nt → (∀ q, E q → mo q = -1) →
    (∀ (m' : Nat) (mo' no' nc' nt' : Nat → Int32), om_N W K m' mo' mc mt no' nc' nt' → (∀ q, (E q ∨ ∃ a', a ≤ a' ∧ a' < 3 ∧ q / 2 = om_ck l a') → mo' q = -1) →
      post (fs, nI m', fr, fk, ft, ow, ce, tg, ve, so, sc, st, mo', mc, mt, no', nc', nt', wl, sn, sr)) →
    ∀ F, d < F → wX_readMapPath_2 post (nI l) fs fr fk ft F (nI a) (nI m) ow ce tg ve so sc st mo mc mt no nc nt wl sn sr := by
  intro d
  induction d with
  | zero =>
    intro a ha E m mo no nc nt hM hE hK F hF
    obtain ⟨F, rfl⟩ : ∃ G, F = G + 1 := ⟨F - 1, by omega⟩
    have h1 : (3 : Int32) ≤ nI a := nI_le (a := 3) (by omega) (by omega)
    rw [wX_readMapPath_2]
    dsimp only
    refine br_t h1 (hK m mo no nc nt hM ?_)
    intro q hq
    rcases hq with h | ⟨a', h⟩
    · exact hE q h
    · omega
  | succ d ih =>
    intro a ha E m mo no nc nt hM hE hK F hF
    obtain ⟨F, rfl⟩ : ∃ G, F = G + 1 := ⟨F - 1, by omega⟩
    have h1 : ¬ (3 : Int32) ≤ nI a := nI_ge (b := 3) (by omega) (by decide)
    have R := om_ckR l hl a (by omega)
    rw [wX_readMapPath_2]
    dsimp only
    refine br_f h1 (om_ckt hl (by omega) (nm_r (om_m2 _) ⟨3, ?_⟩))
    refine om_mr18 R.1 R.2 2 0 (by omega) E m mo no nc nt hM hE ?_ 3 (by omega)
    intro m' mo' no' nc' nt' hM' hE'
    refine ih (a + 1) (by omega) (fun q => E q ∨ q / 2 = om_ck l a) m' mo' no' nc' nt' hM' ?_ ?_ F (by omega)
    · intro q hq
      refine hE' q ?_
      rcases hq with h | h
      · exact Or.inl h
      · exact Or.inr (by omega)
    · intro m2 mo2 no2 nc2 nt2 hM2 hE2
      refine hK m2 mo2 no2 nc2 nt2 hM2 ?_
      intro q hq
      refine hE2 q ?_
      rcases hq with h | ⟨a', h3, h4, h5⟩
      · exact Or.inl (Or.inl h)
      · by_cases e : a' = a
        · rw [e] at h5
          exact Or.inl (Or.inr h5)
        · exact Or.inr ⟨a', by omega, h4, h5⟩
theorem om_mrp {post : SX → Prop} {l m : Nat} {mo no nc nt : Nat → Int32} (hl : l < 4) (hM : om_N W K m mo mc mt no nc nt)
    (hK : ∀ (m' : Nat) (mo' no' nc' nt' : Nat → Int32), om_N W K m' mo' mc mt no' nc' nt' → (∀ q, om_Q l (q / 2) → mo' q = -1) →
      post (fs, nI m', fr, fk, ft, ow, ce, tg, ve, so, sc, st, mo', mc, mt, no', nc', nt', wl, sn, sr)) :
    wpX_readMapPath post (fs, nI m, fr, fk, ft, ow, ce, tg, ve, so, sc, st, mo, mc, mt, no, nc, nt, wl, sn, sr) (nI l) := by
  unfold wpX_readMapPath
  dsimp only
  refine ⟨4, om_mr2 hl 3 0 (by omega) (fun _ => False) m mo no nc nt hM (fun q h => h.elim) ?_ 4 (by omega)⟩
  intro m' mo' no' nc' nt' hM' hE'
  refine hK m' mo' no' nc' nt' hM' ?_
  intro q hq
  obtain ⟨a, ha, e⟩ := hq
  exact hE' q (Or.inr ⟨a, Nat.zero_le a, ha, e⟩)
end
section
theorem om_mf2 {post : Int32 → Prop} {fs fr fk ft : Int32} {ow ce tg ve so sc st mo mc mt no nc nt wl sn sr : Nat → Int32} {l a m : Nat} (hl : l < 4) (ha : a < 3) (hn : m ≤ 4) (ht : ∀ i, i < m → ∃ t, t < 4 ∧ nt i = nI t) (h0 : post (-1))
    (h1 : ∀ i t, i < m → t < 4 → nt i = nI t → om_ck t a = om_ck l a → post (nI i)) : ∀ d i, i + d = m → ∀ F, d < F →
    wX_mapFitting_2 post (nI l) (nI a) fs (nI m) fr fk ft ow ce tg ve so sc st mo mc mt no nc nt wl sn sr F (nI i) := by
  intro d
  induction d with
  | zero =>
    intro i hi F hF
    obtain ⟨F, rfl⟩ : ∃ G, F = G + 1 := ⟨F - 1, by omega⟩
    rw [wX_mapFitting_2]
    dsimp only
    exact br_t (nI_le (by omega) (by omega)) h0
  | succ d ih =>
    intro i hi F hF
    obtain ⟨F, rfl⟩ : ∃ G, F = G + 1 := ⟨F - 1, by omega⟩
    obtain ⟨t, ht8, et⟩ := ht i (by omega)
    have R1 := om_ckR t ht8 a ha
    have R2 := om_ckR l hl a ha
    have c1 : (nI i).toNatClampNeg = i := nI_clamp (by omega)
    rw [wX_mapFitting_2]
    dsimp only
    rw [c1, et]
    refine br_f (nI_ge (by omega) (by omega)) ⟨vp_in_nI (by omega) (by omega), om_ckt ht8 ha (om_ckt hl ha (br_c (fun z => ?_) (fun z => ?_)))⟩
    · exact h1 i t (by omega) ht8 et (om_inj (by omega) (by omega) z)
    · exact nm_r (nI_1 i) (ih (i + 1) (by omega) F (by omega))
theorem om_mfit {post : Int32 → Prop} {fs fr fk ft : Int32} {ow ce tg ve so sc st mo mc mt no nc nt wl sn sr : Nat → Int32} {l a m : Nat} (hl : l < 4) (ha : a < 3) (hn : m ≤ 4) (ht : ∀ i, i < m → ∃ t, t < 4 ∧ nt i = nI t) (h0 : post (-1))
    (h1 : ∀ i t, i < m → t < 4 → nt i = nI t → om_ck t a = om_ck l a → post (nI i)) : wpX_mapFitting post (fs, nI m, fr, fk, ft, ow, ce, tg, ve, so, sc, st, mo, mc, mt, no, nc, nt, wl, sn, sr) (nI l) (nI a) := by
  unfold wpX_mapFitting
  dsimp only
  exact ⟨m + 1, om_mf2 hl ha hn ht h0 h1 m 0 (by omega) (m + 1) (by omega)⟩
end
section
variable {W : Nat → Int32} {K : Nat → Nat} {fs fr fk ft : Int32} {ow ce tg ve so sc st wl sn sr : Nat → Int32}
theorem om_mw17 {post : SX → Prop} {J2 : Int32 → Int32 → (Nat → Int32) → (Nat → Int32) → (Nat → Int32) → (Nat → Int32) → (Nat → Int32) → (Nat → Int32) → (Nat → Int32) → (Nat → Int32) → (Nat → Int32) → (Nat → Int32) → (Nat → Int32) → (Nat → Int32) → (Nat → Int32) → (Nat → Int32) → (Nat → Int32) → (Nat → Int32) → Prop} {l a k : Nat} (hl : l < 4) (ha : a < 3) (hk : k = om_ck l a) (hKL : ∀ b, b < 4 → K b < 4) : ∀ (d j : Nat), j + d = 2 →
    ∀ (m : Nat) (mo mc mt no nc nt : Nat → Int32), om_N W K m mo mc mt no nc nt → (∀ q, 2 * k + j ≤ q → q < 2 * k + 2 → mo q = -1) →
    (∀ (m' : Nat) (mo' mc' mt' no' nc' nt' : Nat → Int32), om_N W K m' mo' mc' mt' no' nc' nt' → (∀ q, q / 2 ≠ k → mo' q = mo q) →
      J2 (om_lv a) (nI m') ow ce tg ve so sc st mo' mc' mt' no' nc' nt' wl sn sr) →
    ∀ F, d < F → wX_writeMapPath_17 post J2 (nI l) (nI a) (nI k) fs fr fk ft F (nI (2 * k + j)) (nI m) ow ce tg ve so sc st mo mc mt no nc nt wl sn sr := by
  have R := om_ckR l hl a ha
  rw [← hk] at R
  intro d
  induction d with
  | zero =>
    intro j hj m mo mc mt no nc nt hM hE hK F hF
    obtain ⟨F, rfl⟩ : ∃ G, F = G + 1 := ⟨F - 1, by omega⟩
    have ej : j = 2 := by omega
    subst ej
    have h1 : (2 : Int32) * nI k + 2 ≤ nI (2 * k + 2) := by
      rw [om_m22]
      exact nI_le (Nat.le_refl _) (by omega)
    rw [wX_writeMapPath_17]
    dsimp only
    exact br_t h1 (nm_r (om_lv1 a) (hK m mo mc mt no nc nt hM (fun q _ => rfl)))
  | succ d ih =>
    intro j hj m mo mc mt no nc nt hM hE hK F hF
    obtain ⟨F, rfl⟩ : ∃ G, F = G + 1 := ⟨F - 1, by omega⟩
    have hn4 := om_Nn hM
    have hs : 2 * k + j < 16 := by omega
    have h1 : ¬ (2 : Int32) * nI k + 2 ≤ nI (2 * k + j) := by
      rw [om_m22]
      exact nI_ge (by omega) (by omega)
    have c1 : (nI (2 * k + j)).toNatClampNeg = 2 * k + j := nI_clamp (by omega)
    have vs : vp_in (nI (2 * k + j)) 16 := vp_in_nI hs (by omega)
    have ho : mo (2 * k + j) = -1 := hE _ (by omega) (by omega)
    have hdiv : (2 * k + j) / 2 = k := by omega
    rw [wX_writeMapPath_17]
    dsimp only
    rw [c1]
    refine br_f h1 (om_mfit hl ha hn4 (om_Nt hM hKL) ?_ ?_)
    · refine ⟨vs, br_t ho (br_t rfl (nm_r (nI_1 _) ?_))⟩
      refine ih (j + 1) (by omega) m mo mc mt no nc nt hM ?_ hK F (by omega)
      intro q h2 h3
      exact hE q (by omega) h3
    · intro i t hi ht et eb
      have c2 : (nI i).toNatClampNeg = i := nI_clamp (by omega)
      have c3 : (nI (m - 1)).toNatClampNeg = m - 1 := nI_clamp (by omega)
      have vi : vp_in (nI i) 4 := vp_in_nI (by omega) (by omega)
      have vn : vp_in (nI (m - 1)) 4 := vp_in_nI (by omega) (by omega)
      have en : nI m - 1 = nI (m - 1) := by
        obtain ⟨p, rfl⟩ : ∃ p, m = p + 1 := ⟨m - 1, by omega⟩
        exact nI_pred p
      refine ⟨vs, br_t ho (br_f (om_nm1 (by omega)) (nm_r en ?_))⟩
      rw [c2, c3]
      refine ⟨vi, vs, nm_e ⟨vi, vs, nm_e ⟨vi, vs, nm_e ⟨vn, vi, nm_e ⟨vn, vi, nm_e ⟨vn, vi, nm_e (nm_r (nI_1 _) ?_)⟩⟩⟩⟩⟩⟩
      refine ih (j + 1) (by omega) (m - 1) _ _ _ _ _ _ (om_Ns hM hKL hi hs ho ht et ?_) ?_ ?_ F (by omega)
      · rw [hdiv]
        exact ⟨a, ha, by rw [hk, eb]⟩
      · intro q h2 h3
        rw [pk_un (by omega)]
        exact hE q (by omega) h3
      · intro m' mo' mc' mt' no' nc' nt' hM' hO'
        refine hK m' mo' mc' mt' no' nc' nt' hM' ?_
        intro q hq
        rw [hO' q hq]
        refine pk_un ?_
        intro e
        rw [e] at hq
        exact hq hdiv
theorem om_mw2 {post : SX → Prop} {l : Nat} (hl : l < 4) (hKL : ∀ b, b < 4 → K b < 4) : ∀ (c : Nat), c ≤ 3 →
    ∀ (m : Nat) (mo mc mt no nc nt : Nat → Int32), om_N W K m mo mc mt no nc nt → (∀ a, a < c → ∀ q, q / 2 = om_ck l a → mo q = -1) →
    (∀ (m' : Nat) (mo' mc' mt' no' nc' nt' : Nat → Int32), om_N W K m' mo' mc' mt' no' nc' nt' →
      post (fs, nI m', fr, fk, ft, ow, ce, tg, ve, so, sc, st, mo', mc', mt', no', nc', nt', wl, sn, sr)) →
    ∀ F, c < F → wX_writeMapPath_2 post (nI l) fs fr fk ft F (om_lv c) (nI m) ow ce tg ve so sc st mo mc mt no nc nt wl sn sr := by
  intro c
  induction c with
  | zero =>
    intro hc m mo mc mt no nc nt hM hE hK F hF
    obtain ⟨F, rfl⟩ : ∃ G, F = G + 1 := ⟨F - 1, by omega⟩
    rw [wX_writeMapPath_2]
    dsimp only
    have h1 : om_lv 0 < 0 := by decide
    exact br_t h1 (hK m mo mc mt no nc nt hM)
  | succ c ih =>
    intro hc m mo mc mt no nc nt hM hE hK F hF
    obtain ⟨F, rfl⟩ : ∃ G, F = G + 1 := ⟨F - 1, by omega⟩
    have R := om_ckR l hl c (by omega)
    have h1 : ¬ om_lv (c + 1) < 0 := nI_pos (by omega)
    rw [wX_writeMapPath_2]
    dsimp only
    refine br_f h1 (om_ckt hl (by omega) (nm_r (om_m2 _) ⟨3, ?_⟩))
    refine om_mw17 (k := om_ck l c) hl (by omega) rfl hKL 2 0 (by omega) m mo mc mt no nc nt hM ?_ ?_ 3 (by omega)
    · intro q h2 h3
      exact hE c (by omega) q (by omega)
    · intro m' mo' mc' mt' no' nc' nt' hM' hO'
      refine ih (by omega) m' mo' mc' mt' no' nc' nt' hM' ?_ hK F (by omega)
      intro a ha q hq
      rw [hO' q ?_]
      · exact hE a (by omega) q hq
      · intro e
        have := om_ckD l hl a (by omega) c (by omega) (hq.symm.trans e)
        omega
theorem om_mwp {post : SX → Prop} {l m : Nat} {mo mc mt no nc nt : Nat → Int32} (hl : l < 4) (hKL : ∀ b, b < 4 → K b < 4) (hM : om_N W K m mo mc mt no nc nt)
    (hE : ∀ q, om_Q l (q / 2) → mo q = -1)
    (hK : ∀ (m' : Nat) (mo' mc' mt' no' nc' nt' : Nat → Int32), om_N W K m' mo' mc' mt' no' nc' nt' →
      post (fs, nI m', fr, fk, ft, ow, ce, tg, ve, so, sc, st, mo', mc', mt', no', nc', nt', wl, sn, sr)) :
    wpX_writeMapPath post (fs, nI m, fr, fk, ft, ow, ce, tg, ve, so, sc, st, mo, mc, mt, no, nc, nt, wl, sn, sr) (nI l) := by
  unfold wpX_writeMapPath
  dsimp only
  exact ⟨4, om_mw2 hl hKL 3 (by omega) m mo mc mt no nc nt hM (fun a ha q hq => hE q ⟨a, ha, hq⟩) hK 4 (by omega)⟩
end
end
section
/-! the leaf of a block: three bits of a word of the smaller store -/
def om_fl (w : Int32) (j : Nat) : Int32 := (w >>> (nI (3 * j) &&& 31)) &&& 7
def om_pw (w : Int32) (j : Nat) (x : Int32) : Int32 := (w &&& (((7 : Int32) <<< (nI (3 * j) &&& 31)) ^^^ (-1))) ||| (x <<< (nI (3 * j) &&& 31))
def om_po (w : Int32) (j : Nat) (x : Int32) : Int32 := w ||| (x <<< (nI (3 * j) &&& 31))
theorem om_b7 : ∀ i, i < 32 → bt 7 i = decide (i < 3) := by decide +kernel
theorem om_bn : ∀ x, x < 8 → ∀ i, i < 32 → 3 ≤ i → bt (nI x) i = false := by decide +kernel
theorem om_flB (w : Int32) {j i : Nat} (hj : j < 4) (hi : i < 32) : bt (om_fl w j) i = (decide (i < 3) && bt w (3 * j + i)) := by
  unfold om_fl
  rw [b_and, b_sshr (3 * j) (by omega) w hi, om_b7 i hi]
  by_cases h : i < 3
  · rw [if_pos (by omega), decide_eq_true h, Bool.and_true, Bool.true_and]
  · rw [decide_eq_false h, Bool.and_false, Bool.false_and]
theorem om_poB (w x : Int32) {j p : Nat} (hj : j < 4) (hp : p < 32) : bt (om_po w j x) p = (bt w p || (decide (3 * j ≤ p) && bt x (p - 3 * j))) := by
  unfold om_po
  rw [b_or, b_shl (3 * j) (by omega) x hp]
theorem om_pwB (w x : Int32) {j p : Nat} (hj : j < 4) (hp : p < 32) :
    bt (om_pw w j x) p = ((bt w p && ((decide (3 * j ≤ p) && decide (p - 3 * j < 3)) ^^ true)) || (decide (3 * j ≤ p) && bt x (p - 3 * j))) := by
  unfold om_pw
  rw [b_or, b_and, b_xor, b_shl (3 * j) (by omega) x hp, b_shl (3 * j) (by omega) 7 hp, b_m1 p hp, om_b7 (p - 3 * j) (by omega)]
theorem om_flS (w : Int32) {j x : Nat} (hj : j < 4) (hx : x < 8) : om_fl (om_pw w j (nI x)) j = nI x := by
  apply b_ext
  intro i hi
  rw [om_flB _ hj hi]
  by_cases h : i < 3
  · rw [om_pwB w (nI x) hj (by omega), decide_eq_true h, decide_eq_true (show 3 * j ≤ 3 * j + i by omega), decide_eq_true (show 3 * j + i - 3 * j < 3 by omega), show 3 * j + i - 3 * j = i by omega]
    cases bt w (3 * j + i) <;> cases bt (nI x) i <;> rfl
  · rw [decide_eq_false h, Bool.false_and]
    exact (om_bn x hx i hi (by omega)).symm
theorem om_flO (w : Int32) {i j x : Nat} (hi : i < 4) (hj : j < 4) (hx : x < 8) (hne : i ≠ j) : om_fl (om_pw w j (nI x)) i = om_fl w i := by
  apply b_ext
  intro p hp
  rw [om_flB _ hi hp, om_flB _ hi hp]
  by_cases h : p < 3
  · rw [om_pwB w (nI x) hj (by omega)]
    by_cases g : 3 * j ≤ 3 * i + p
    · rw [decide_eq_true g, decide_eq_false (show ¬ 3 * i + p - 3 * j < 3 by omega), om_bn x hx (3 * i + p - 3 * j) (by omega) (by omega)]
      cases bt w (3 * i + p) <;> rfl
    · rw [decide_eq_false g]
      cases bt w (3 * i + p) <;> rfl
  · rw [decide_eq_false h, Bool.false_and, Bool.false_and]
theorem om_flP (w : Int32) {j x : Nat} (hj : j < 4) (hx : x < 8) (h0 : om_fl w j = 0) : om_fl (om_po w j (nI x)) j = nI x := by
  apply b_ext
  intro i hi
  rw [om_flB _ hj hi]
  by_cases h : i < 3
  · have z : bt (om_fl w j) i = false := by rw [h0, b_0]
    rw [om_flB _ hj hi, decide_eq_true h, Bool.true_and] at z
    rw [om_poB w (nI x) hj (by omega), z, decide_eq_true h, decide_eq_true (show 3 * j ≤ 3 * j + i by omega), show 3 * j + i - 3 * j = i by omega]
    cases bt (nI x) i <;> rfl
  · rw [decide_eq_false h, Bool.false_and]
    exact (om_bn x hx i hi (by omega)).symm
theorem om_flQ (w : Int32) {i j x : Nat} (hi : i < 4) (hj : j < 4) (hx : x < 8) (hne : i ≠ j) : om_fl (om_po w j (nI x)) i = om_fl w i := by
  apply b_ext
  intro p hp
  rw [om_flB _ hi hp, om_flB _ hi hp]
  by_cases h : p < 3
  · rw [om_poB w (nI x) hj (by omega)]
    by_cases g : 3 * j ≤ 3 * i + p
    · rw [decide_eq_true g, om_bn x hx (3 * i + p - 3 * j) (by omega) (by omega)]
      cases bt w (3 * i + p) <;> rfl
    · rw [decide_eq_false g]
      cases bt w (3 * i + p) <;> rfl
  · rw [decide_eq_false h, Bool.false_and, Bool.false_and]
def om_W (L : Nat → Nat) (m : Nat) (mo mc mt no nc nt wl : Nat → Int32) : Prop :=
  ∃ (W : Nat → Int32) (K : Nat → Nat), om_N W K m mo mc mt no nc nt ∧ (∀ w, w < 4 → K w < 4 ∧ wl w = nI (K w)) ∧ (∀ b, b < 16 → om_fl (W (b / 4)) (b % 4) = nI (L b))
section
variable {W : Nat → Int32} {K : Nat → Nat} {fs fr fk ft : Int32} {ow ce tg ve so sc st mo mc mt no nc nt wl sn sr : Nat → Int32}
theorem om_l43a {post : Int32 → SX → Prop} {p1 x4 r : Int32} {w l m : Nat} (hl : l < 4) (hKL : ∀ b, b < 4 → K b < 4) (hM : om_N W K m mo mc mt no nc nt)
    (hE : ∀ q, om_Q l (q / 2) → mo q = -1)
    (hK : ∀ (m' : Nat) (mo' mc' mt' no' nc' nt' : Nat → Int32), om_N W K m' mo' mc' mt' no' nc' nt' →
      post r (fs, nI m', fr, fk, ft, ow, ce, tg, ve, so, sc, st, mo', mc', mt', no', nc', nt', wl, sn, sr)) :
    ∀ d i, i + d = m → (∀ j, i ≤ j → j < m → no j ≠ nI w) → ∀ F, d < F →
    wX_leafOf_43 post p1 (nI w) x4 (nI l) fs (nI m) fr fk ft F r (nI i) ow ce tg ve so sc st mo mc mt no nc nt wl sn sr := by
  have hm := om_Nn hM
  intro d
  induction d with
  | zero =>
    intro i hi hn F hF
    obtain ⟨F, rfl⟩ : ∃ G, F = G + 1 := ⟨F - 1, by omega⟩
    rw [wX_leafOf_43]
    dsimp only
    exact br_t (nI_le (by omega) (by omega)) (om_mwp hl hKL hM hE hK)
  | succ d ih =>
    intro i hi hn F hF
    obtain ⟨F, rfl⟩ : ∃ G, F = G + 1 := ⟨F - 1, by omega⟩
    have c1 : (nI i).toNatClampNeg = i := nI_clamp (by omega)
    rw [wX_leafOf_43]
    dsimp only
    rw [c1]
    refine br_f (nI_ge (by omega) (by omega)) ⟨vp_in_nI (by omega) (by omega), br_f (hn i (Nat.le_refl i) (by omega)) (nm_r (nI_1 i) ?_)⟩
    exact ih (i + 1) (by omega) (fun j h1 h2 => hn j (by omega) h2) F (by omega)
theorem om_l43b {post : Int32 → SX → Prop} {p1 x4 x5 r x : Int32} {w m i0 : Nat} (hi0 : i0 < m) (hm : m ≤ 4) (hw : w < 4) (hq : no i0 = nI w)
    (hne : ∀ j, j < m → j ≠ i0 → no j ≠ nI w)
    (hc : (p1 = -1 ∧ x = nc i0) ∨ (p1 ≠ -1 ∧ x = (nc i0 &&& (((7 : Int32) <<< (x4 &&& 31)) ^^^ (-1))) ||| (p1 <<< (x4 &&& 31))))
    (hA : ∀ F, m - (i0 + 1) < F → wX_leafOf_43 post p1 (nI w) x4 x5 fs (nI m) fr fk ft F ((nc i0 >>> (x4 &&& 31)) &&& 7) (nI (i0 + 1)) ow ce tg ve so sc st mo mc mt no (upd nc i0 x) (upd nt i0 (wl w)) wl sn sr) :
    ∀ d i, i + d = i0 → ∀ F, m - i < F →
    wX_leafOf_43 post p1 (nI w) x4 x5 fs (nI m) fr fk ft F r (nI i) ow ce tg ve so sc st mo mc mt no nc nt wl sn sr := by
  have c2 : (nI w).toNatClampNeg = w := nI_clamp (by omega)
  have vw : vp_in (nI w) 4 := vp_in_nI hw (by omega)
  intro d
  induction d with
  | zero =>
    intro i hi F hF
    obtain ⟨F, rfl⟩ : ∃ G, F = G + 1 := ⟨F - 1, by omega⟩
    have ei : i = i0 := by omega
    subst ei
    have c1 : (nI i).toNatClampNeg = i := nI_clamp (by omega)
    have vi : vp_in (nI i) 4 := vp_in_nI (by omega) (by omega)
    have H := hA F (by omega)
    rw [wX_leafOf_43]
    dsimp only
    rw [c1]
    refine br_f (nI_ge (by omega) (by omega)) ⟨vi, br_t hq ⟨vi, nm_e (nm_e ?_)⟩⟩
    rcases hc with ⟨e1, e2⟩ | ⟨e1, e2⟩
    · rw [e2, om_self] at H
      refine br_t e1 ?_
      unfold wX_leafOf_109
      rw [c1, c2]
      exact ⟨vw, vi, nm_e (nm_r (nI_1 i) H)⟩
    · rw [e2] at H
      refine br_f e1 ⟨vi, nm_e ?_⟩
      unfold wX_leafOf_109
      rw [c1, c2]
      exact ⟨vw, vi, nm_e (nm_r (nI_1 i) H)⟩
  | succ d ih =>
    intro i hi F hF
    obtain ⟨F, rfl⟩ : ∃ G, F = G + 1 := ⟨F - 1, by omega⟩
    have c1 : (nI i).toNatClampNeg = i := nI_clamp (by omega)
    rw [wX_leafOf_43]
    dsimp only
    rw [c1]
    refine br_f (nI_ge (by omega) (by omega)) ⟨vp_in_nI (by omega) (by omega), br_f (hne i (by omega) (by omega)) (nm_r (nI_1 i) ?_)⟩
    exact ih (i + 1) (by omega) F (by omega)
end
theorem om_m3 (b : Nat) (hb : b < 16) : (3 : Int32) * (nI b &&& 3) = nI (3 * (b % 4)) := by
  rw [pk_andN (by omega) 2 (by decide), show (3 : Int32) = nI 3 from rfl, pk_mul]
/-- the pure end of leafOf -/
theorem om_Wup {L L' : Nat → Nat} {b kk : Nat} {x p1 : Int32} {W : Nat → Int32} {K : Nat → Nat} {wl : Nat → Int32}
    (hb : b < 16) (hkk : kk < 4) (hwl : ∀ w, w < 4 → K w < 4 ∧ wl w = nI (K w)) (hfl : ∀ b, b < 16 → om_fl (W (b / 4)) (b % 4) = nI (L b))
    (hx : (p1 = -1 ∧ L' = L ∧ x = W (b / 4)) ∨ (∃ nl, nl < 8 ∧ p1 = nI nl ∧ L' = om_un L b nl ∧ x = om_pw (W (b / 4)) (b % 4) p1)) :
    (∀ w, w < 4 → om_un K (b / 4) kk w < 4 ∧ upd wl (b / 4) (nI kk) w = nI (om_un K (b / 4) kk w)) ∧
    (∀ c, c < 16 → om_fl (upd W (b / 4) x (c / 4)) (c % 4) = nI (L' c)) := by
  constructor
  · intro w hw
    by_cases e : w = b / 4
    · rw [e, om_uns, pk_us]
      exact ⟨hkk, rfl⟩
    · rw [om_unn e, pk_un e]
      exact hwl w hw
  · intro c hc
    by_cases e : c / 4 = b / 4
    · rw [e, pk_us]
      rcases hx with ⟨_, e2, e3⟩ | ⟨nl, hnl, e1, e2, e3⟩
      · rw [e2, e3, ← e]
        exact hfl c hc
      · rw [e2, e3, e1]
        by_cases e4 : c = b
        · rw [e4, om_uns]
          exact om_flS _ (by omega) hnl
        · rw [om_unn e4, om_flO _ (by omega) (by omega) hnl (by omega), ← e]
          exact hfl c hc
    · rw [pk_un e]
      rcases hx with ⟨_, e2, _⟩ | ⟨nl, hnl, e1, e2, e3⟩
      · rw [e2]
        exact hfl c hc
      · rw [e2, om_unn (by intro z; rw [z] at e; exact e rfl)]
        exact hfl c hc
theorem om_leaf {post : Int32 → SX → Prop} {fs fr fk ft : Int32} {ow ce tg ve so sc st mo mc mt no nc nt wl sn sr : Nat → Int32} {L L' : Nat → Nat} {m b : Nat} {p1 : Int32} (hb : b < 16) (hW : om_W L m mo mc mt no nc nt wl)
    (hp : (p1 = -1 ∧ L' = L) ∨ (∃ nl, nl < 8 ∧ p1 = nI nl ∧ L' = om_un L b nl))
    (hK : ∀ (m' : Nat) (fr' : Int32) (mo' mc' mt' no' nc' nt' wl' : Nat → Int32), om_W L' m' mo' mc' mt' no' nc' nt' wl' →
      post (nI (L b)) (fs, nI m', fr', fk, ft, ow, ce, tg, ve, so, sc, st, mo', mc', mt', no', nc', nt', wl', sn, sr)) :
    wpX_leafOf post (fs, nI m, fr, fk, ft, ow, ce, tg, ve, so, sc, st, mo, mc, mt, no, nc, nt, wl, sn, sr) (nI b) p1 := by
  obtain ⟨W, K, hN, hwl, hfl⟩ := hW
  have hw : b / 4 < 4 := by omega
  have e1 : nI b >>> ((2 : Int32) &&& 31) = nI (b / 4) := pk_shrN (by omega) _ 2 (by decide)
  have e2 := om_m3 b hb
  have cw : (nI (b / 4)).toNatClampNeg = b / 4 := nI_clamp (by omega)
  have vw : vp_in (nI (b / 4)) 4 := vp_in_nI hw (by omega)
  obtain ⟨hk4, ek⟩ := hwl (b / 4) hw
  unfold wpX_leafOf
  dsimp only
  refine nm_r e1 (nm_r e2 ⟨vw, ?_⟩)
  rw [cw, ek]
  refine nm_e (om_next (fun r fr' => ?_))
  dsimp only
  obtain ⟨kk, hkk, er⟩ := pk_andE r (m := 3) 2 (by decide)
  refine And.intro vw (nm_r (congrArg (upd wl (b / 4)) er) (om_mrp hk4 hN ?_))
  intro m' mo' no' nc' nt' hN' hE'
  dsimp only
  have hm' := om_Nn hN'
  obtain ⟨pos, I⟩ := hN'
  obtain ⟨i0, hi0, hp0, hso, hsc, hst⟩ := om_st (by omega) I hw (fun q _ hq => hE' q hq)
  have hne : ∀ j, j < m' → j ≠ i0 → no' j ≠ nI (b / 4) := by
    intro j hj hji e
    have := om_posS (by omega) I hj hw e
    omega
  have hx : ∃ x, ((p1 = -1 ∧ x = nc' i0) ∨ (p1 ≠ -1 ∧ x = (nc' i0 &&& (((7 : Int32) <<< (nI (3 * (b % 4)) &&& 31)) ^^^ (-1))) ||| (p1 <<< (nI (3 * (b % 4)) &&& 31)))) ∧
      ((p1 = -1 ∧ L' = L ∧ x = W (b / 4)) ∨ (∃ nl, nl < 8 ∧ p1 = nI nl ∧ L' = om_un L b nl ∧ x = om_pw (W (b / 4)) (b % 4) p1)) := by
    rcases hp with ⟨h1, h2⟩ | ⟨nl, h0, h1, h2⟩
    · exact ⟨nc' i0, Or.inl ⟨h1, rfl⟩, Or.inl ⟨h1, h2, hsc⟩⟩
    · refine ⟨_, Or.inr ⟨?_, rfl⟩, Or.inr ⟨nl, h0, h1, h2, ?_⟩⟩
      · rw [h1]
        exact om_nm1 (by omega)
      · rw [hsc]
        rfl
  obtain ⟨x, hx1, hx2⟩ := hx
  obtain ⟨U1, U2⟩ := om_Wup hb hkk hwl hfl hx2
  refine ⟨m' + 1, om_l43b hi0 hm' hw hso hne hx1 ?_ i0 0 (by omega) (m' + 1) (by omega)⟩
  intro F hF
  rw [pk_us]
  have I2 := om_ch (l := kk) (x := x) (by omega) I hw hp0
  have hr : (nc' i0 >>> (nI (3 * (b % 4)) &&& 31)) &&& 7 = nI (L b) := by
    rw [hsc]
    exact hfl b hb
  rw [hr]
  refine om_l43a (W := upd W (b / 4) x) (K := om_un K (b / 4) kk) hk4 (fun w hw => (U1 w hw).1) ⟨pos, I2⟩ hE' ?_ (m' - (i0 + 1)) (i0 + 1) (by omega) ?_ F hF
  · intro m2 mo2 mc2 mt2 no2 nc2 nt2 hN2
    exact hK m2 fr' mo2 mc2 mt2 no2 nc2 nt2 _ ⟨_, _, hN2, U1, U2⟩
  · intro j h1 h2
    exact hne j h2 (by omega)
end
section
/-! one access -/
section
variable {V : Nat → Int32} {L : Nat → Nat} {fm fr fk ft : Int32} {ow ce tg ve so sc st mo mc mt no nc nt wl sn sr : Nat → Int32}
theorem om_a35a {post : Int32 → SX → Prop} {x2 x3 x4 r : Int32} {b l n : Nat} (hl : l < 8) (hL : ∀ b, b < 16 → L b < 8) (hM : om_M V L fk n ow ce tg ve so sc st)
    (hE : ∀ q, om_P l (q / 4) → ow q = -1)
    (hK : ∀ (n' : Nat) (fr' : Int32) (ow' ce' tg' ve' so' sc' st' : Nat → Int32), om_M V L fk n' ow' ce' tg' ve' so' sc' st' →
      post r (nI n', fm, fr', fk, ft, ow', ce', tg', ve', so', sc', st', mo, mc, mt, no, nc, nt, wl, sn, sr)) :
    ∀ d i, i + d = n → (∀ j, i ≤ j → j < n → so j ≠ nI b) → ∀ F, d < F →
    wX_access_35 post (nI b) x2 x3 x4 (nI l) (nI n) fm fr fk ft F r (nI i) ow ce tg ve so sc st mo mc mt no nc nt wl sn sr := by
  have hn16 := om_Mn hM
  intro d
  induction d with
  | zero =>
    intro i hi hn F hF
    obtain ⟨F, rfl⟩ : ∃ G, F = G + 1 := ⟨F - 1, by omega⟩
    rw [wX_access_35]
    dsimp only
    exact br_t (nI_le (by omega) (by omega)) (om_wp hl hL hM hE hK)
  | succ d ih =>
    intro i hi hn F hF
    obtain ⟨F, rfl⟩ : ∃ G, F = G + 1 := ⟨F - 1, by omega⟩
    have c1 : (nI i).toNatClampNeg = i := nI_clamp (by omega)
    rw [wX_access_35]
    dsimp only
    rw [c1]
    refine br_f (nI_ge (by omega) (by omega)) ⟨vp_in_nI (by omega) (by omega), br_f (hn i (Nat.le_refl i) (by omega)) (nm_r (nI_1 i) ?_)⟩
    exact ih (i + 1) (by omega) (fun j h1 h2 => hn j (by omega) h2) F (by omega)
theorem om_a35b {post : Int32 → SX → Prop} {x2 x3 x4 x5 r x : Int32} {b n i0 : Nat} (hi0 : i0 < n) (hn : n ≤ 16) (hq : so i0 = nI b)
    (hne : ∀ j, j < n → j ≠ i0 → so j ≠ nI b)
    (hc : (x2 = 0 ∧ x = sc i0) ∨ (x2 ≠ 0 ∧ x = x3))
    (hA : ∀ F, n - (i0 + 1) < F → wX_access_35 post (nI b) x2 x3 x4 x5 (nI n) fm fr fk ft F (sc i0) (nI (i0 + 1)) ow ce tg ve so (upd sc i0 x) (upd st i0 x4) mo mc mt no nc nt wl sn sr) :
    ∀ d i, i + d = i0 → ∀ F, n - i < F →
    wX_access_35 post (nI b) x2 x3 x4 x5 (nI n) fm fr fk ft F r (nI i) ow ce tg ve so sc st mo mc mt no nc nt wl sn sr := by
  intro d
  induction d with
  | zero =>
    intro i hi F hF
    obtain ⟨F, rfl⟩ : ∃ G, F = G + 1 := ⟨F - 1, by omega⟩
    have ei : i = i0 := by omega
    subst ei
    have c1 : (nI i).toNatClampNeg = i := nI_clamp (by omega)
    have vi : vp_in (nI i) 16 := vp_in_nI (by omega) (by omega)
    have H := hA F (by omega)
    rw [wX_access_35]
    dsimp only
    rw [c1]
    refine br_f (nI_ge (by omega) (by omega)) ⟨vi, br_t hq ⟨vi, nm_e ?_⟩⟩
    rcases hc with ⟨e1, e2⟩ | ⟨e1, e2⟩
    · rw [e2] at H
      refine br_t e1 ?_
      unfold wX_access_80
      rw [c1]
      exact ⟨vi, nm_e ⟨vi, nm_e (nm_r (nI_1 i) H)⟩⟩
    · rw [e2] at H
      refine br_f e1 ?_
      unfold wX_access_80
      rw [c1]
      exact ⟨vi, nm_e ⟨vi, nm_e (nm_r (nI_1 i) H)⟩⟩
  | succ d ih =>
    intro i hi F hF
    obtain ⟨F, rfl⟩ : ∃ G, F = G + 1 := ⟨F - 1, by omega⟩
    have c1 : (nI i).toNatClampNeg = i := nI_clamp (by omega)
    rw [wX_access_35]
    dsimp only
    rw [c1]
    refine br_f (nI_ge (by omega) (by omega)) ⟨vp_in_nI (by omega) (by omega), br_f (hne i (by omega) (by omega)) (nm_r (nI_1 i) ?_)⟩
    exact ih (i + 1) (by omega) F (by omega)
end
theorem om_unL {L : Nat → Nat} {b x : Nat} (hL : ∀ b, b < 16 → L b < 8) (hx : x < 8) : ∀ c, c < 16 → om_un L b x c < 8 := by
  intro c hc
  by_cases e : c = b
  · rw [e, om_uns]; exact hx
  · rw [om_unn e]; exact hL c hc
theorem om_ac0 {post : Int32 → SX → Prop} {fr fk ft : Int32} {ow ce tg ve so sc st mo mc mt no nc nt wl sn sr : Nat → Int32} {V V' : Nat → Int32} {L : Nat → Nat} {n m b : Nat} {c x : Int32} (hL : ∀ b, b < 16 → L b < 8)
    (hM : om_M V L fk n ow ce tg ve so sc st) (hW : om_W L m mo mc mt no nc nt wl) (hb : b < 16) (hc : (c = 0 ∧ V' = V) ∨ (c ≠ 0 ∧ V' = upd V b x))
    (hK : ∀ (L' : Nat → Nat) (n' m' : Nat) (fr' : Int32) (ow' ce' tg' ve' so' sc' st' mo' mc' mt' no' nc' nt' wl' : Nat → Int32), (∀ b, b < 16 → L' b < 8) →
      om_M V' L' fk n' ow' ce' tg' ve' so' sc' st' → om_W L' m' mo' mc' mt' no' nc' nt' wl' →
      post (V b) (nI n', nI m', fr', fk, 4, ow', ce', tg', ve', so', sc', st', mo', mc', mt', no', nc', nt', wl', sn, sr)) :
    wpX_access post (nI n, nI m, fr, fk, ft, ow, ce, tg, ve, so, sc, st, mo, mc, mt, no, nc, nt, wl, sn, sr) (nI b) c x := by
  unfold wpX_access
  dsimp only
  refine om_next (fun r1 fr1 => ?_)
  dsimp only
  obtain ⟨nl, hnl, er⟩ := pk_andE r1 (m := 7) 3 (by decide)
  refine nm_r er ?_
  refine om_leaf (L' := om_un L b nl) hb hW (Or.inr ⟨nl, hnl, rfl, rfl⟩) ?_
  intro m1 fr2 mo1 mc1 mt1 no1 nc1 nt1 wl1 hW1
  dsimp only
  refine om_rp (t := 0) (hL b hb) hM ?_
  intro n1 ow1 so1 sc1 st1 hM1 hE1
  dsimp only
  have hn1 := om_Mn hM1
  obtain ⟨pos, I⟩ := hM1
  obtain ⟨i0, hi0, hp0, hso, hsc, hst⟩ := om_st (by omega) I hb (fun q _ hq => hE1 q hq)
  have hne : ∀ j, j < n1 → j ≠ i0 → so1 j ≠ nI b := by
    intro j hj hji e
    have := om_posS (by omega) I hj hb e
    omega
  have hx : ∃ y, ((c = 0 ∧ y = sc1 i0) ∨ (c ≠ 0 ∧ y = x)) ∧ V' = upd V b y := by
    rcases hc with ⟨h1, h2⟩ | ⟨h1, h2⟩
    · exact ⟨sc1 i0, Or.inl ⟨h1, rfl⟩, by rw [hsc, om_self, h2]⟩
    · exact ⟨x, Or.inr ⟨h1, rfl⟩, h2⟩
  obtain ⟨y, hy, eV⟩ := hx
  refine ⟨n1 + 1, om_a35b hi0 hn1 hso hne hy ?_ i0 0 (by omega) (n1 + 1) (by omega)⟩
  intro F hF
  have I2 := om_ch (l := nl) (x := y) (by omega) I hb hp0
  rw [← eV] at I2
  rw [hsc]
  have hL' := om_unL (b := b) hL hnl
  refine om_a35a (V := V') (L := om_un L b nl) (hL b hb) hL' ⟨pos, I2⟩ hE1 ?_ (n1 - (i0 + 1)) (i0 + 1) (by omega) ?_ F hF
  · intro n2 fr3 ow2 ce2 tg2 ve2 so2 sc2 st2 hM2
    exact hK _ n2 m1 fr3 ow2 ce2 tg2 ve2 so2 sc2 st2 mo1 mc1 mt1 no1 nc1 nt1 wl1 hL' hM2 hW1
  · intro j h1 h2
    exact hne j h2 (by omega)
/-- the state's picture: the blocks V, the snapshots, scratch, touched -/
def om_X (V : Nat → Int32) (sn0 sr0 : Nat → Int32) (t0 : Int32) (u : SX) : Prop := match u with
  | (fs, fm, fr, fk, ft, ow, ce, tg, ve, so, sc, st, mo, mc, mt, no, nc, nt, wl, sn, sr) => ∃ (L : Nat → Nat) (n m : Nat), fs = nI n ∧ fm = nI m ∧ (∀ b, b < 16 → L b < 8) ∧ om_M V L fk n ow ce tg ve so sc st ∧ om_W L m mo mc mt no nc nt wl ∧ sn = sn0 ∧ sr = sr0 ∧ ft = t0
theorem om_acc {post : Int32 → SX → Prop} {V V' sn0 sr0 : Nat → Int32} {t0 c x : Int32} {b : Nat} {u : SX} (hX : om_X V sn0 sr0 t0 u) (hb : b < 16)
    (hc : (c = 0 ∧ V' = V) ∨ (c ≠ 0 ∧ V' = upd V b x)) (hK : ∀ u', om_X V' sn0 sr0 4 u' → post (V b) u') : wpX_access post u (nI b) c x := by
  obtain ⟨fs, fm, fr, fk, ft, ow, ce, tg, ve, so, sc, st, mo, mc, mt, no, nc, nt, wl, sn, sr⟩ := u
  obtain ⟨L, n, m, rfl, rfl, hL, hM, hW, rfl, rfl, rfl⟩ := hX
  refine om_ac0 hL hM hW hb hc ?_
  intro L' n' m' fr' ow' ce' tg' ve' so' sc' st' mo' mc' mt' no' nc' nt' wl' hL' hM' hW'
  exact hK _ ⟨L', n', m', rfl, rfl, hL', hM', hW', rfl, rfl, rfl⟩
end
section
/-! the relation; gathering; the short methods -/
def i_Rel (k : Nat) (u : SX) (v : SY) : Prop := match v with
  | (fu, bl, _, sa) => ∃ (sr0 : Nat → Int32) (t0 : Int32), om_X bl sa sr0 t0 u ∧ ((fu = 0 ∧ t0 = 0) ∨ (fu = 1 ∧ t0 = 4))
theorem i_up {k : Nat} {u : SX} {v : SY} (h : i_Rel k u v) : i_Rel (k + 5) u v := h
theorem om_Xr {V sn0 sr0 : Nat → Int32} {t0 : Int32} {fs fm fr fk ft : Int32} {ow ce tg ve so sc st mo mc mt no nc nt wl sn sr : Nat → Int32} (h : om_X V sn0 sr0 t0 (fs, fm, fr, fk, ft, ow, ce, tg, ve, so, sc, st, mo, mc, mt, no, nc, nt, wl, sn, sr)) : sn = sn0 ∧ sr = sr0 ∧ ft = t0 := by
  obtain ⟨L, n, m, _, _, _, _, _, e⟩ := h
  exact e
theorem om_Xs {V sn0 sr0 sn1 sr1 : Nat → Int32} {t0 : Int32} {fs fm fr fk ft : Int32} {ow ce tg ve so sc st mo mc mt no nc nt wl sn sr : Nat → Int32} (h : om_X V sn0 sr0 t0 (fs, fm, fr, fk, ft, ow, ce, tg, ve, so, sc, st, mo, mc, mt, no, nc, nt, wl, sn, sr)) : om_X V sn1 sr1 t0 (fs, fm, fr, fk, ft, ow, ce, tg, ve, so, sc, st, mo, mc, mt, no, nc, nt, wl, sn1, sr1) := by
  obtain ⟨L, n, m, e1, e2, hL, hM, hW, _, _, e3⟩ := h
  exact ⟨L, n, m, e1, e2, hL, hM, hW, rfl, rfl, e3⟩
theorem om_Xf {V sn0 sr0 : Nat → Int32} {t0 : Int32} {fs fm fr fk ft : Int32} {ow ce tg ve so sc st mo mc mt no nc nt wl sn sr : Nat → Int32} (fr1 : Int32) (h : om_X V sn0 sr0 t0 (fs, fm, fr, fk, ft, ow, ce, tg, ve, so, sc, st, mo, mc, mt, no, nc, nt, wl, sn, sr)) : om_X V sn0 sr0 t0 (fs, fm, fr1, fk, ft, ow, ce, tg, ve, so, sc, st, mo, mc, mt, no, nc, nt, wl, sn, sr) := by
  obtain ⟨L, n, m, e1, e2, hL, hM, hW, e⟩ := h
  exact ⟨L, n, m, e1, e2, hL, hM, hW, e⟩
theorem om_g2 {post : SX → Prop} {V sn0 : Nat → Int32} : ∀ d j, j + d = 16 → ∀ (fs fm fr fk ft : Int32) (ow ce tg ve so sc st mo mc mt no nc nt wl sn sr : Nat → Int32) (sr0 : Nat → Int32) (t0 : Int32), om_X V sn0 sr0 t0 (fs, fm, fr, fk, ft, ow, ce, tg, ve, so, sc, st, mo, mc, mt, no, nc, nt, wl, sn, sr) →
    (∀ i, i < j → sr0 i = V i) → (d = 0 → t0 = 4) → (∀ (u' : SX) (sr' : Nat → Int32), om_X V sn0 sr' 4 u' → (∀ i, i < 16 → sr' i = V i) → post u') →
    ∀ F, d < F → wX_gather_2 post F (nI j) fs fm fr fk ft ow ce tg ve so sc st mo mc mt no nc nt wl sn sr := by
  intro d
  induction d with
  | zero =>
    intro j hj fs fm fr fk ft ow ce tg ve so sc st mo mc mt no nc nt wl sn sr sr0 t0 hX hs ht hK F hF
    obtain ⟨F, rfl⟩ : ∃ G, F = G + 1 := ⟨F - 1, by omega⟩
    have h1 : (16 : Int32) ≤ nI j := nI_le (a := 16) (by omega) (by omega)
    rw [wX_gather_2]
    dsimp only
    refine br_t h1 (hK _ sr0 ?_ (fun i hi => hs i (by omega)))
    rw [ht rfl] at hX
    exact hX
  | succ d ih =>
    intro j hj fs fm fr fk ft ow ce tg ve so sc st mo mc mt no nc nt wl sn sr sr0 t0 hX hs ht hK F hF
    obtain ⟨F, rfl⟩ : ∃ G, F = G + 1 := ⟨F - 1, by omega⟩
    have h1 : ¬ (16 : Int32) ≤ nI j := nI_ge (b := 16) (by omega) (by decide)
    have c1 : (nI j).toNatClampNeg = j := nI_clamp (by omega)
    rw [wX_gather_2]
    dsimp only
    rw [c1]
    refine br_f h1 (om_acc hX (by omega) (Or.inl ⟨rfl, rfl⟩) ?_)
    intro u' hX'
    obtain ⟨fs1, fm1, fr1, fk1, ft1, ow1, ce1, tg1, ve1, so1, sc1, st1, mo1, mc1, mt1, no1, nc1, nt1, wl1, sn1, sr1⟩ := u'
    obtain ⟨_, er, _⟩ := om_Xr hX'
    refine And.intro (vp_in_nI (by omega) (by omega)) (nm_e (nm_r (nI_1 j) ?_))
    refine ih (j + 1) (by omega) fs1 fm1 fr1 fk1 ft1 ow1 ce1 tg1 ve1 so1 sc1 st1 mo1 mc1 mt1 no1 nc1 nt1 wl1 sn1 (upd sr1 j (V j)) (upd sr1 j (V j)) 4 ?_ ?_ (fun _ => rfl) hK F (by omega)
    · have hX2 := om_Xs (sn1 := sn0) (sr1 := upd sr1 j (V j)) hX'
      obtain ⟨en, _, _⟩ := om_Xr hX'
      rw [en]
      exact hX2
    · intro i hi
      by_cases e : i = j
      · rw [e, pk_us]
      · rw [pk_un e, er]
        exact hs i (by omega)
theorem om_gat {post : SX → Prop} {V sn0 sr0 : Nat → Int32} {t0 : Int32} {u : SX} (hX : om_X V sn0 sr0 t0 u)
    (hK : ∀ (u' : SX) (sr' : Nat → Int32), om_X V sn0 sr' 4 u' → (∀ i, i < 16 → sr' i = V i) → post u') : wpX_gather post u := by
  obtain ⟨fs, fm, fr, fk, ft, ow, ce, tg, ve, so, sc, st, mo, mc, mt, no, nc, nt, wl, sn, sr⟩ := u
  unfold wpX_gather
  dsimp only
  exact ⟨17, om_g2 16 0 (by omega) fs fm fr fk ft ow ce tg ve so sc st mo mc mt no nc nt wl sn sr sr0 t0 hX (fun i hi => absurd hi (Nat.not_lt_zero i)) (fun z => absurd z (by decide)) hK 17 (by omega)⟩
theorem om_blk (x : Int32) : (x < 0 ∨ nI 16 ≤ x) ∨ ∃ b, b < 16 ∧ x = nI b := by
  rcases pk_ix x (n := 16) (by decide) with h | h | h
  · exact Or.inl (Or.inl h)
  · exact Or.inl (Or.inr h)
  · exact Or.inr h
theorem om_isT {post : Int32 → Prop} {b : Nat} (hb : b < 16) (h : post 1) : wpX_isBlock post (nI b) := by
  unfold wpX_isBlock
  exact br_f (nI_pos (by omega)) (br_f (nI_ge (b := 16) hb (by decide)) h)
theorem om_isF {post : Int32 → Prop} {x : Int32} (hx : x < 0 ∨ nI 16 ≤ x) (h : post 0) : wpX_isBlock post x := by
  unfold wpX_isBlock
  by_cases z : x < 0
  · exact br_t z h
  · exact br_f z (br_t (hx.resolve_left z) h)
theorem om_bdF {post : Int32 → Prop} {fu : Int32} {bl ol sa : Nat → Int32} {b : Nat} (hb : b < 16) (h : post 0) : wpY_bad post (fu, bl, ol, sa) (nI b) := by
  unfold wpY_bad
  dsimp only
  exact br_f (nI_pos (by omega)) (br_t (nI_le (b := 15) (by omega) (by decide)) h)
theorem om_n16 {x : Int32} (h : nI 16 ≤ x) : ¬ x ≤ 15 := by
  rw [Int32.le_iff_toInt_le, nI_toInt (by decide)] at h
  rw [Int32.le_iff_toInt_le, show (15 : Int32).toInt = 15 from by decide]
  omega
theorem om_bdT {post : Int32 → Prop} {fu : Int32} {bl ol sa : Nat → Int32} {x : Int32} (hx : x < 0 ∨ nI 16 ≤ x) (h : post 1) : wpY_bad post (fu, bl, ol, sa) x := by
  unfold wpY_bad
  dsimp only
  by_cases z : x < 0
  · exact br_t z h
  · exact br_f z (br_f (om_n16 (hx.resolve_left z)) h)
theorem om_10 : ¬ (1 : Int32) = 0 := by decide
theorem i_vc_stir {k : Nat} {u : SX} {v : SY} (I : i_Rel k u v) (hk : k + 5 ≤ 2561) (v1 : Int32) : wpX_stir (fun u' => wpY_stir (fun v' => i_Rel (k + 5) u' v') v v1) u v1 := by
  obtain ⟨fu, bl, ol, sa⟩ := v
  obtain ⟨sr0, t0, hX, ht⟩ := I
  obtain ⟨fs, fm, fr, fk, ft, ow, ce, tg, ve, so, sc, st, mo, mc, mt, no, nc, nt, wl, sn, sr⟩ := u
  unfold wpX_stir wpY_stir
  dsimp only
  exact br_c (fun _ => ⟨sr0, t0, om_Xf _ hX, ht⟩) (fun _ => ⟨sr0, t0, om_Xf _ hX, ht⟩)
theorem i_vc_read {k : Nat} {u : SX} {v : SY} (I : i_Rel k u v) (hk : k + 5 ≤ 2561) (v1 : Int32) : wpX_read (fun r u' => wpY_read (fun r' v' => r' = r ∧ i_Rel (k + 5) u' v') v v1) u v1 := by
  obtain ⟨fu, bl, ol, sa⟩ := v
  obtain ⟨sr0, t0, hX, ht⟩ := I
  obtain ⟨fs, fm, fr, fk, ft, ow, ce, tg, ve, so, sc, st, mo, mc, mt, no, nc, nt, wl, sn, sr⟩ := u
  unfold wpX_read wpY_read
  dsimp only
  rcases om_blk v1 with hp | ⟨b, hb, rfl⟩
  · exact om_isF hp (br_t rfl (om_bdT hp (br_f om_10 ⟨rfl, sr0, t0, hX, ht⟩)))
  · have c1 : (nI b).toNatClampNeg = b := nI_clamp (by omega)
    have vb : vp_in (nI b) 16 := vp_in_nI hb (by omega)
    rw [c1]
    refine om_isT hb (br_f om_10 (om_acc hX hb (Or.inl ⟨rfl, rfl⟩) ?_))
    intro u' hX'
    obtain ⟨fs1, fm1, fr1, fk1, ft1, ow1, ce1, tg1, ve1, so1, sc1, st1, mo1, mc1, mt1, no1, nc1, nt1, wl1, sn1, sr1⟩ := u'
    exact om_bdF hb (br_t rfl ⟨vb, rfl, sr0, 4, hX', Or.inr ⟨rfl, rfl⟩⟩)
theorem i_vc_write {k : Nat} {u : SX} {v : SY} (I : i_Rel k u v) (hk : k + 5 ≤ 2561) (v1 : Int32) (v2 : Int32) : wpX_write (fun r u' => wpY_write (fun r' v' => r' = r ∧ i_Rel (k + 5) u' v') v v1 v2) u v1 v2 := by
  obtain ⟨fu, bl, ol, sa⟩ := v
  obtain ⟨sr0, t0, hX, ht⟩ := I
  obtain ⟨fs, fm, fr, fk, ft, ow, ce, tg, ve, so, sc, st, mo, mc, mt, no, nc, nt, wl, sn, sr⟩ := u
  unfold wpX_write wpY_write
  dsimp only
  rcases om_blk v1 with hp | ⟨b, hb, rfl⟩
  · exact om_isF hp (br_t rfl (om_bdT hp (br_f om_10 ⟨rfl, sr0, t0, hX, ht⟩)))
  · have c1 : (nI b).toNatClampNeg = b := nI_clamp (by omega)
    have vb : vp_in (nI b) 16 := vp_in_nI hb (by omega)
    rw [c1]
    refine om_isT hb (br_f om_10 (om_acc hX hb (Or.inr ⟨om_10, rfl⟩) ?_))
    intro u' hX'
    obtain ⟨fs1, fm1, fr1, fk1, ft1, ow1, ce1, tg1, ve1, so1, sc1, st1, mo1, mc1, mt1, no1, nc1, nt1, wl1, sn1, sr1⟩ := u'
    exact om_bdF hb (br_t rfl ⟨vb, nm_e ⟨rfl, sr0, 4, hX', Or.inr ⟨rfl, rfl⟩⟩⟩)
theorem i_vc_add {k : Nat} {u : SX} {v : SY} (I : i_Rel k u v) (hk : k + 5 ≤ 2561) (v1 : Int32) (v2 : Int32) : wpX_add (fun r u' => wpY_add (fun r' v' => r' = r ∧ i_Rel (k + 5) u' v') v v1 v2) u v1 v2 := by
  obtain ⟨fu, bl, ol, sa⟩ := v
  obtain ⟨sr0, t0, hX, ht⟩ := I
  obtain ⟨fs, fm, fr, fk, ft, ow, ce, tg, ve, so, sc, st, mo, mc, mt, no, nc, nt, wl, sn, sr⟩ := u
  unfold wpX_add wpY_add
  dsimp only
  rcases om_blk v1 with hp | ⟨b, hb, rfl⟩
  · exact om_isF hp (br_t rfl (om_bdT hp (br_f om_10 ⟨rfl, sr0, t0, hX, ht⟩)))
  · have c1 : (nI b).toNatClampNeg = b := nI_clamp (by omega)
    have vb : vp_in (nI b) 16 := vp_in_nI hb (by omega)
    rw [c1]
    refine om_isT hb (br_f om_10 (om_acc hX hb (Or.inl ⟨rfl, rfl⟩) ?_))
    intro u' hX'
    obtain ⟨fs1, fm1, fr1, fk1, ft1, ow1, ce1, tg1, ve1, so1, sc1, st1, mo1, mc1, mt1, no1, nc1, nt1, wl1, sn1, sr1⟩ := u'
    refine nm_e (om_acc hX' hb (Or.inr ⟨om_10, rfl⟩) ?_)
    intro u2 hX2
    obtain ⟨fs2, fm2, fr2, fk2, ft2, ow2, ce2, tg2, ve2, so2, sc2, st2, mo2, mc2, mt2, no2, nc2, nt2, wl2, sn2, sr2⟩ := u2
    exact om_bdF hb (br_t rfl ⟨vb, vb, nm_e ⟨vb, pk_us, sr0, 4, hX2, Or.inr ⟨rfl, rfl⟩⟩⟩)
theorem om_exch (V : Nat → Int32) (b c : Nat) : upd (upd V c (V b)) b (V c) = upd (upd V b (V c)) c (V b) := by
  funext j
  by_cases h1 : j = b
  · by_cases h2 : j = c
    · rw [← h1, ← h2, pk_us]
    · rw [pk_un h2, h1, pk_us, pk_us]
  · by_cases h2 : j = c
    · rw [pk_un h1, h2, pk_us, pk_us]
    · rw [pk_un h1, pk_un h2, pk_un h2, pk_un h1]
theorem i_vc_exchange {k : Nat} {u : SX} {v : SY} (I : i_Rel k u v) (hk : k + 5 ≤ 2561) (v1 : Int32) (v2 : Int32) : wpX_exchange (fun r u' => wpY_exchange (fun r' v' => r' = r ∧ i_Rel (k + 5) u' v') v v1 v2) u v1 v2 := by
  obtain ⟨fu, bl, ol, sa⟩ := v
  obtain ⟨sr0, t0, hX, ht⟩ := I
  obtain ⟨fs, fm, fr, fk, ft, ow, ce, tg, ve, so, sc, st, mo, mc, mt, no, nc, nt, wl, sn, sr⟩ := u
  unfold wpX_exchange wpY_exchange
  dsimp only
  rcases om_blk v1 with hp | ⟨b, hb, rfl⟩
  · exact om_isF hp (br_t rfl (om_bdT hp (br_f om_10 ⟨rfl, sr0, t0, hX, ht⟩)))
  · rcases om_blk v2 with hp | ⟨c, hc, rfl⟩
    · exact om_isT hb (br_f om_10 (om_isF hp (br_t rfl (om_bdF hb (br_t rfl (om_bdT hp (br_f om_10 ⟨rfl, sr0, t0, hX, ht⟩)))))))
    · have c1 : (nI b).toNatClampNeg = b := nI_clamp (by omega)
      have vb : vp_in (nI b) 16 := vp_in_nI hb (by omega)
      have c2 : (nI c).toNatClampNeg = c := nI_clamp (by omega)
      have vc : vp_in (nI c) 16 := vp_in_nI hc (by omega)
      rw [c1, c2]
      refine om_isT hb (br_f om_10 (om_isT hc (br_f om_10 (om_acc hX hb (Or.inl ⟨rfl, rfl⟩) ?_))))
      intro u1 hX1
      obtain ⟨fs1, fm1, fr1, fk1, ft1, ow1, ce1, tg1, ve1, so1, sc1, st1, mo1, mc1, mt1, no1, nc1, nt1, wl1, sn1, sr1⟩ := u1
      refine om_acc hX1 hc (Or.inr ⟨om_10, rfl⟩) ?_
      intro u2 hX2
      obtain ⟨fs2, fm2, fr2, fk2, ft2, ow2, ce2, tg2, ve2, so2, sc2, st2, mo2, mc2, mt2, no2, nc2, nt2, wl2, sn2, sr2⟩ := u2
      refine om_acc hX2 hb (Or.inr ⟨om_10, rfl⟩) ?_
      intro u3 hX3
      obtain ⟨fs3, fm3, fr3, fk3, ft3, ow3, ce3, tg3, ve3, so3, sc3, st3, mo3, mc3, mt3, no3, nc3, nt3, wl3, sn3, sr3⟩ := u3
      rw [om_exch] at hX3
      exact om_bdF hb (br_t rfl (om_bdF hc (br_t rfl ⟨vb, nm_e ⟨vc, vb, nm_e ⟨vc, nm_e ⟨rfl, sr0, 4, hX3, Or.inr ⟨rfl, rfl⟩⟩⟩⟩⟩)))
theorem i_vc_copy {k : Nat} {u : SX} {v : SY} (I : i_Rel k u v) (hk : k + 5 ≤ 2561) (v1 : Int32) (v2 : Int32) : wpX_copy (fun r u' => wpY_copy (fun r' v' => r' = r ∧ i_Rel (k + 5) u' v') v v1 v2) u v1 v2 := by
  obtain ⟨fu, bl, ol, sa⟩ := v
  obtain ⟨sr0, t0, hX, ht⟩ := I
  obtain ⟨fs, fm, fr, fk, ft, ow, ce, tg, ve, so, sc, st, mo, mc, mt, no, nc, nt, wl, sn, sr⟩ := u
  unfold wpX_copy wpY_copy
  dsimp only
  rcases om_blk v1 with hp | ⟨b, hb, rfl⟩
  · exact om_isF hp (br_t rfl (om_bdT hp (br_f om_10 ⟨rfl, sr0, t0, hX, ht⟩)))
  · rcases om_blk v2 with hp | ⟨c, hc, rfl⟩
    · exact om_isT hb (br_f om_10 (om_isF hp (br_t rfl (om_bdF hb (br_t rfl (om_bdT hp (br_f om_10 ⟨rfl, sr0, t0, hX, ht⟩)))))))
    · have c1 : (nI b).toNatClampNeg = b := nI_clamp (by omega)
      have vb : vp_in (nI b) 16 := vp_in_nI hb (by omega)
      have c2 : (nI c).toNatClampNeg = c := nI_clamp (by omega)
      have vc : vp_in (nI c) 16 := vp_in_nI hc (by omega)
      rw [c1, c2]
      refine om_isT hb (br_f om_10 (om_isT hc (br_f om_10 (om_acc hX hb (Or.inl ⟨rfl, rfl⟩) ?_))))
      intro u1 hX1
      obtain ⟨fs1, fm1, fr1, fk1, ft1, ow1, ce1, tg1, ve1, so1, sc1, st1, mo1, mc1, mt1, no1, nc1, nt1, wl1, sn1, sr1⟩ := u1
      refine om_acc hX1 hc (Or.inr ⟨om_10, rfl⟩) ?_
      intro u2 hX2
      obtain ⟨fs2, fm2, fr2, fk2, ft2, ow2, ce2, tg2, ve2, so2, sc2, st2, mo2, mc2, mt2, no2, nc2, nt2, wl2, sn2, sr2⟩ := u2
      exact om_bdF hb (br_t rfl (om_bdF hc (br_t rfl ⟨vb, vc, nm_e ⟨rfl, sr0, 4, hX2, Or.inr ⟨rfl, rfl⟩⟩⟩)))
end
section
/-! fill, rotate, sum, find -/
def om_fv (V : Nat → Int32) (b : Nat) (x s : Int32) : Nat → Nat → Int32
  | 0 => V
  | k + 1 => upd (om_fv V b x s k) (b + k) (x + (nI k * s))
theorem om_fx {post : Int32 → SX → Prop} {V sn0 sr0 : Nat → Int32} {x3 x4 : Int32} {b c : Nat} (hbc : b + c ≤ 16) : ∀ d k, k + d = c → ∀ (fs fm fr fk ft : Int32) (ow ce tg ve so sc st mo mc mt no nc nt wl sn sr : Nat → Int32) (t0 : Int32), om_X (om_fv V b x3 x4 k) sn0 sr0 t0 (fs, fm, fr, fk, ft, ow, ce, tg, ve, so, sc, st, mo, mc, mt, no, nc, nt, wl, sn, sr) →
    (d = 0 → t0 = 4) → (∀ u' : SX, om_X (om_fv V b x3 x4 c) sn0 sr0 4 u' → post 0 u') → ∀ F, d < F → wX_fill_31 post (nI b) (nI c) x3 x4 F (nI k) fs fm fr fk ft ow ce tg ve so sc st mo mc mt no nc nt wl sn sr := by
  intro d
  induction d with
  | zero =>
    intro k hk fs fm fr fk ft ow ce tg ve so sc st mo mc mt no nc nt wl sn sr t0 hX ht hK F hF
    obtain ⟨F, rfl⟩ : ∃ G, F = G + 1 := ⟨F - 1, by omega⟩
    have ek : k = c := by omega
    subst ek
    rw [wX_fill_31]
    dsimp only
    rw [ht rfl] at hX
    exact br_t (nI_le (Nat.le_refl _) (by omega)) (hK _ hX)
  | succ d ih =>
    intro k hk fs fm fr fk ft ow ce tg ve so sc st mo mc mt no nc nt wl sn sr t0 hX ht hK F hF
    obtain ⟨F, rfl⟩ : ∃ G, F = G + 1 := ⟨F - 1, by omega⟩
    rw [wX_fill_31]
    dsimp only
    rw [nI_add b k]
    refine br_f (nI_ge (by omega) (by omega)) (om_acc hX (by omega) (Or.inr ⟨om_10, rfl⟩) ?_)
    intro u' hX'
    obtain ⟨fs1, fm1, fr1, fk1, ft1, ow1, ce1, tg1, ve1, so1, sc1, st1, mo1, mc1, mt1, no1, nc1, nt1, wl1, sn1, sr1⟩ := u'
    exact nm_r (nI_1 k) (ih (k + 1) (by omega) fs1 fm1 fr1 fk1 ft1 ow1 ce1 tg1 ve1 so1 sc1 st1 mo1 mc1 mt1 no1 nc1 nt1 wl1 sn1 sr1 4 hX' (fun _ => rfl) hK F (by omega))
theorem om_fy {post : Int32 → SY → Prop} {fu : Int32} {V ol sa : Nat → Int32} {x3 x4 : Int32} {b c : Nat} (hbc : b + c ≤ 16) (hK : post 0 (fu, om_fv V b x3 x4 c, ol, sa)) :
    ∀ d k, k + d = c → ∀ F, d < F → wY_fill_36 post (nI b) (nI c) x3 x4 fu F (nI k) (om_fv V b x3 x4 k) ol sa := by
  intro d
  induction d with
  | zero =>
    intro k hk F hF
    obtain ⟨F, rfl⟩ : ∃ G, F = G + 1 := ⟨F - 1, by omega⟩
    have ek : k = c := by omega
    subst ek
    rw [wY_fill_36]
    dsimp only
    exact br_t (nI_le (Nat.le_refl _) (by omega)) hK
  | succ d ih =>
    intro k hk F hF
    obtain ⟨F, rfl⟩ : ∃ G, F = G + 1 := ⟨F - 1, by omega⟩
    have c1 : (nI (b + k)).toNatClampNeg = b + k := nI_clamp (by omega)
    rw [wY_fill_36]
    dsimp only
    rw [nI_add b k, c1]
    exact br_f (nI_ge (by omega) (by omega)) ⟨vp_in_nI (by omega) (by omega), nm_e (nm_r (nI_1 k) (ih (k + 1) (by omega) F (by omega)))⟩
theorem i_vc_fill {k : Nat} {u : SX} {v : SY} (I : i_Rel k u v) (hk : k + 5 ≤ 2561) (v1 : Int32) (v2 : Int32) (v3 : Int32) (v4 : Int32) : wpX_fill (fun r u' => wpY_fill (fun r' v' => r' = r ∧ i_Rel (k + 5) u' v') v v1 v2 v3 v4) u v1 v2 v3 v4 := by
  obtain ⟨fu, bl, ol, sa⟩ := v
  obtain ⟨sr0, t0, hX, ht⟩ := I
  obtain ⟨fs, fm, fr, fk, ft, ow, ce, tg, ve, so, sc, st, mo, mc, mt, no, nc, nt, wl, sn, sr⟩ := u
  unfold wpX_fill wpY_fill
  dsimp only
  by_cases h1 : v2 < 1
  · exact br_t h1 (br_t h1 ⟨rfl, sr0, t0, hX, ht⟩)
  · by_cases h2 : v2 ≤ 16
    · by_cases h3 : v1 < 0
      · exact br_f h1 (br_t h2 (br_t h3 (br_f h1 (br_t h2 (br_t h3 ⟨rfl, sr0, t0, hX, ht⟩)))))
      · by_cases h4 : v1 ≤ 16 - v2
        · have hc : ∃ c, 1 ≤ c ∧ c ≤ 16 ∧ v2 = nI c := by
            obtain ⟨c, hc, e⟩ := nI_of2 (x := v2) (M := 16) (n := 16) (by decide) (by
              intro z
              rw [Int32.lt_iff_toInt_lt, show (0 : Int32).toInt = 0 from by decide] at z
              rw [Int32.lt_iff_toInt_lt, show (1 : Int32).toInt = 1 from by decide] at h1
              omega) h2
            refine ⟨c, ?_, hc, e⟩
            rw [e] at h1
            have h5 : ¬ nI c < nI 1 := h1
            rw [nI_ltI (by omega) (by omega)] at h5
            omega
          obtain ⟨c, hc1, hc16, e2⟩ := hc
          obtain ⟨b, hb31, e1⟩ := nI_of h3
          have h4' : b ≤ 16 - c := by
            have e16 : (16 : Int32) - nI c = nI (16 - c) := pk_sub (a := 16) hc16
            rw [e1, e2, e16, nI_leI hb31 (by omega)] at h4
            exact h4
          refine br_f h1 (br_t h2 (br_f h3 (br_t h4 ?_)))
          refine ⟨c + 1, ?_⟩
          have HX := om_fx (post := fun r u' => wpY_fill (fun r' v' => r' = r ∧ i_Rel (k + 5) u' v') (fu, bl, ol, sa) v1 v2 v3 v4) (V := bl) (sn0 := sa) (sr0 := sr0) (x3 := v3) (x4 := v4) (b := b) (c := c) (by omega) c 0 (by omega) fs fm fr fk ft ow ce tg ve so sc st mo mc mt no nc nt wl sn sr t0 hX (fun z => by omega) ?_ (c + 1) (by omega)
          · rw [← e1, ← e2] at HX
            exact HX
          · intro u' hX'
            unfold wpY_fill
            dsimp only
            refine br_f h1 (br_t h2 (br_f h3 (br_t h4 ⟨c + 1, ?_⟩)))
            rw [e1, e2]
            exact om_fy (V := bl) (by omega) ⟨rfl, sr0, 4, hX', Or.inr ⟨rfl, rfl⟩⟩ c 0 (by omega) (c + 1) (by omega)
        · exact br_f h1 (br_t h2 (br_f h3 (br_f h4 (br_f h1 (br_t h2 (br_f h3 (br_f h4 ⟨rfl, sr0, t0, hX, ht⟩)))))))
    · exact br_f h1 (br_f h2 (br_f h1 (br_f h2 ⟨rfl, sr0, t0, hX, ht⟩)))
def om_rv (V g : Nat → Int32) (x : Int32) : Nat → Nat → Int32
  | 0 => V
  | k + 1 => upd (om_rv V g x k) k (g ((nI k + x) &&& 15).toNatClampNeg)
theorem om_rvc (V : Nat → Int32) {g h : Nat → Int32} (x : Int32) (e : ∀ i, i < 16 → g i = h i) (k : Nat) : om_rv V g x k = om_rv V h x k := by
  induction k with
  | zero => rfl
  | succ k ih =>
    obtain ⟨j, hj, ej⟩ := pk_andE (nI k + x) (m := 15) 4 (by decide)
    have c1 : (nI j).toNatClampNeg = j := nI_clamp (by omega)
    rw [om_rv, om_rv, ih, ej, c1, e j hj]
theorem om_rx {post : Int32 → SX → Prop} {V sn0 sr0 : Nat → Int32} {x1 : Int32} : ∀ d k, k + d = 16 → ∀ (fs fm fr fk ft : Int32) (ow ce tg ve so sc st mo mc mt no nc nt wl sn sr : Nat → Int32), om_X (om_rv V sr0 x1 k) sn0 sr0 4 (fs, fm, fr, fk, ft, ow, ce, tg, ve, so, sc, st, mo, mc, mt, no, nc, nt, wl, sn, sr) →
    (∀ u' : SX, om_X (om_rv V sr0 x1 16) sn0 sr0 4 u' → post 0 u') → ∀ F, d < F → wX_rotate_6 post x1 F (nI k) fs fm fr fk ft ow ce tg ve so sc st mo mc mt no nc nt wl sn sr := by
  intro d
  induction d with
  | zero =>
    intro k hk fs fm fr fk ft ow ce tg ve so sc st mo mc mt no nc nt wl sn sr hX hK F hF
    obtain ⟨F, rfl⟩ : ∃ G, F = G + 1 := ⟨F - 1, by omega⟩
    have ek : k = 16 := by omega
    subst ek
    rw [wX_rotate_6]
    dsimp only
    exact br_t (nI_le (a := 16) (Nat.le_refl _) (by omega)) (hK _ hX)
  | succ d ih =>
    intro k hk fs fm fr fk ft ow ce tg ve so sc st mo mc mt no nc nt wl sn sr hX hK F hF
    obtain ⟨F, rfl⟩ : ∃ G, F = G + 1 := ⟨F - 1, by omega⟩
    obtain ⟨_, er, _⟩ := om_Xr hX
    rw [wX_rotate_6]
    dsimp only
    refine br_f (nI_ge (b := 16) (by omega) (by decide)) ⟨pk_andIn (nI k + x1) 4 (by decide) (by omega), om_acc hX (by omega) (Or.inr ⟨om_10, rfl⟩) ?_⟩
    intro u' hX'
    obtain ⟨fs1, fm1, fr1, fk1, ft1, ow1, ce1, tg1, ve1, so1, sc1, st1, mo1, mc1, mt1, no1, nc1, nt1, wl1, sn1, sr1⟩ := u'
    refine nm_r (nI_1 k) (ih (k + 1) (by omega) fs1 fm1 fr1 fk1 ft1 ow1 ce1 tg1 ve1 so1 sc1 st1 mo1 mc1 mt1 no1 nc1 nt1 wl1 sn1 sr1 ?_ hK F (by omega))
    rw [er] at hX'
    exact hX'
theorem om_ry33 {post : Int32 → SY → Prop} {fu x1 : Int32} {V ol sa : Nat → Int32} (hK : post 0 (fu, om_rv V ol x1 16, ol, sa)) :
    ∀ d k, k + d = 16 → ∀ F, d < F → wY_rotate_33 post x1 fu F (nI k) (om_rv V ol x1 k) ol sa := by
  intro d
  induction d with
  | zero =>
    intro k hk F hF
    obtain ⟨F, rfl⟩ : ∃ G, F = G + 1 := ⟨F - 1, by omega⟩
    have ek : k = 16 := by omega
    subst ek
    rw [wY_rotate_33]
    dsimp only
    exact br_t (nI_le (a := 16) (Nat.le_refl _) (by omega)) hK
  | succ d ih =>
    intro k hk F hF
    obtain ⟨F, rfl⟩ : ∃ G, F = G + 1 := ⟨F - 1, by omega⟩
    have c1 : (nI k).toNatClampNeg = k := nI_clamp (by omega)
    rw [wY_rotate_33]
    dsimp only
    rw [c1]
    exact br_f (nI_ge (b := 16) (by omega) (by decide)) ⟨pk_andIn (nI k + x1) 4 (by decide) (by omega), vp_in_nI (by omega) (by omega), nm_e (nm_r (nI_1 k) (ih (k + 1) (by omega) F (by omega)))⟩
theorem om_ry7 {post : Int32 → SY → Prop} {fu x1 : Int32} {V sa : Nat → Int32} (hK : ∀ ol, (∀ i, i < 16 → ol i = V i) → post 0 (fu, om_rv V ol x1 16, ol, sa)) :
    ∀ d k, k + d = 16 → ∀ ol : Nat → Int32, (∀ i, i < k → ol i = V i) → ∀ F, d < F → wY_rotate_7 post x1 fu F (nI k) V ol sa := by
  intro d
  induction d with
  | zero =>
    intro k hk ol ho F hF
    obtain ⟨F, rfl⟩ : ∃ G, F = G + 1 := ⟨F - 1, by omega⟩
    have ek : k = 16 := by omega
    subst ek
    rw [wY_rotate_7]
    dsimp only
    exact br_t (nI_le (a := 16) (Nat.le_refl _) (by omega)) ⟨17, om_ry33 (V := V) (hK ol ho) 16 0 (by omega) 17 (by omega)⟩
  | succ d ih =>
    intro k hk ol ho F hF
    obtain ⟨F, rfl⟩ : ∃ G, F = G + 1 := ⟨F - 1, by omega⟩
    have c1 : (nI k).toNatClampNeg = k := nI_clamp (by omega)
    have vk : vp_in (nI k) 16 := vp_in_nI (by omega) (by omega)
    rw [wY_rotate_7]
    dsimp only
    rw [c1]
    refine br_f (nI_ge (b := 16) (by omega) (by decide)) ⟨vk, vk, nm_e (nm_r (nI_1 k) (ih (k + 1) (by omega) _ ?_ F (by omega)))⟩
    intro i hi
    by_cases e : i = k
    · rw [e, pk_us]
    · rw [pk_un e]; exact ho i (by omega)
theorem i_vc_rotate {k : Nat} {u : SX} {v : SY} (I : i_Rel k u v) (hk : k + 5 ≤ 2561) (v1 : Int32) : wpX_rotate (fun r u' => wpY_rotate (fun r' v' => r' = r ∧ i_Rel (k + 5) u' v') v v1) u v1 := by
  obtain ⟨fu, bl, ol, sa⟩ := v
  obtain ⟨sr0, t0, hX, ht⟩ := I
  obtain ⟨fs, fm, fr, fk, ft, ow, ce, tg, ve, so, sc, st, mo, mc, mt, no, nc, nt, wl, sn, sr⟩ := u
  unfold wpX_rotate
  dsimp only
  refine om_gat hX ?_
  intro u1 sr9 hX1 hs1
  obtain ⟨fs1, fm1, fr1, fk1, ft1, ow1, ce1, tg1, ve1, so1, sc1, st1, mo1, mc1, mt1, no1, nc1, nt1, wl1, sn1, sr1⟩ := u1
  refine ⟨17, om_rx (V := bl) 16 0 (by omega) fs1 fm1 fr1 fk1 ft1 ow1 ce1 tg1 ve1 so1 sc1 st1 mo1 mc1 mt1 no1 nc1 nt1 wl1 sn1 sr1 hX1 ?_ 17 (by omega)⟩
  intro u2 hX2
  unfold wpY_rotate
  dsimp only
  refine ⟨17, om_ry7 ?_ 16 0 (by omega) ol (fun i hi => absurd hi (Nat.not_lt_zero i)) 17 (by omega)⟩
  intro ol' ho'
  refine ⟨rfl, sr9, 4, ?_, Or.inr ⟨rfl, rfl⟩⟩
  rw [om_rvc bl v1 (fun i hi => (ho' i hi).trans (hs1 i hi).symm)]
  exact hX2
def om_sm (f : Nat → Int32) : Nat → Int32
  | 0 => 0
  | k + 1 => om_sm f k + f k
theorem om_smc {f g : Nat → Int32} : ∀ k, (∀ i, i < k → f i = g i) → om_sm f k = om_sm g k := by
  intro k
  induction k with
  | zero => intro _; rfl
  | succ k ih =>
    intro h
    rw [om_sm, om_sm, ih (fun i hi => h i (by omega)), h k (by omega)]
theorem om_sx {post : Int32 → SX → Prop} {fs fm fr fk ft : Int32} {ow ce tg ve so sc st mo mc mt no nc nt wl sn sr : Nat → Int32} (hK : post (om_sm sr 16) (fs, fm, fr, fk, ft, ow, ce, tg, ve, so, sc, st, mo, mc, mt, no, nc, nt, wl, sn, sr)) : ∀ d k, k + d = 16 → ∀ F, d < F → wX_sum_8 post fs fm fr fk ft ow ce tg ve so sc st mo mc mt no nc nt wl sn sr F (om_sm sr k) (nI k) := by
  intro d
  induction d with
  | zero =>
    intro k hk F hF
    obtain ⟨F, rfl⟩ : ∃ G, F = G + 1 := ⟨F - 1, by omega⟩
    have ek : k = 16 := by omega
    subst ek
    rw [wX_sum_8]
    dsimp only
    exact br_t (nI_le (a := 16) (Nat.le_refl _) (by omega)) hK
  | succ d ih =>
    intro k hk F hF
    obtain ⟨F, rfl⟩ : ∃ G, F = G + 1 := ⟨F - 1, by omega⟩
    have c1 : (nI k).toNatClampNeg = k := nI_clamp (by omega)
    rw [wX_sum_8]
    dsimp only
    rw [c1]
    exact br_f (nI_ge (b := 16) (by omega) (by decide)) ⟨vp_in_nI (by omega) (by omega), nm_e (nm_r (nI_1 k) (ih (k + 1) (by omega) F (by omega)))⟩
theorem om_sy {post : Int32 → SY → Prop} {fu : Int32} {bl ol sa : Nat → Int32} (hK : post (om_sm bl 16) (fu, bl, ol, sa)) : ∀ d k, k + d = 16 → ∀ F, d < F → wY_sum_9 post fu bl ol sa F (om_sm bl k) (nI k) := by
  intro d
  induction d with
  | zero =>
    intro k hk F hF
    obtain ⟨F, rfl⟩ : ∃ G, F = G + 1 := ⟨F - 1, by omega⟩
    have ek : k = 16 := by omega
    subst ek
    rw [wY_sum_9]
    dsimp only
    exact br_t (nI_le (a := 16) (Nat.le_refl _) (by omega)) hK
  | succ d ih =>
    intro k hk F hF
    obtain ⟨F, rfl⟩ : ∃ G, F = G + 1 := ⟨F - 1, by omega⟩
    have c1 : (nI k).toNatClampNeg = k := nI_clamp (by omega)
    rw [wY_sum_9]
    dsimp only
    rw [c1]
    exact br_f (nI_ge (b := 16) (by omega) (by decide)) ⟨vp_in_nI (by omega) (by omega), nm_e (nm_r (nI_1 k) (ih (k + 1) (by omega) F (by omega)))⟩
theorem i_vc_sum {k : Nat} {u : SX} {v : SY} (I : i_Rel k u v) (hk : k + 5 ≤ 2561) : wpX_sum (fun r u' => wpY_sum (fun r' v' => r' = r ∧ i_Rel (k + 5) u' v') v) u := by
  obtain ⟨fu, bl, ol, sa⟩ := v
  obtain ⟨sr0, t0, hX, ht⟩ := I
  obtain ⟨fs, fm, fr, fk, ft, ow, ce, tg, ve, so, sc, st, mo, mc, mt, no, nc, nt, wl, sn, sr⟩ := u
  unfold wpX_sum
  dsimp only
  refine om_gat hX ?_
  intro u1 sr9 hX1 hs1
  obtain ⟨fs1, fm1, fr1, fk1, ft1, ow1, ce1, tg1, ve1, so1, sc1, st1, mo1, mc1, mt1, no1, nc1, nt1, wl1, sn1, sr1⟩ := u1
  obtain ⟨_, er, _⟩ := om_Xr hX1
  refine ⟨17, om_sx ?_ 16 0 (by omega) 17 (by omega)⟩
  unfold wpY_sum
  dsimp only
  refine ⟨17, om_sy ⟨?_, sr9, 4, hX1, Or.inr ⟨rfl, rfl⟩⟩ 16 0 (by omega) 17 (by omega)⟩
  rw [er]
  exact (om_smc 16 hs1).symm
def om_fd (V : Nat → Int32) (x : Int32) : Nat → Nat → Int32
  | 0, _ => -2
  | d + 1, j => if V j = x then nI j else om_fd V x d (j + 1)
theorem om_fdx {post : Int32 → SX → Prop} {V sn0 sr0 : Nat → Int32} {x1 : Int32} : ∀ d k, k + d = 16 → ∀ (fs fm fr fk ft : Int32) (ow ce tg ve so sc st mo mc mt no nc nt wl sn sr : Nat → Int32) (t0 : Int32), om_X V sn0 sr0 t0 (fs, fm, fr, fk, ft, ow, ce, tg, ve, so, sc, st, mo, mc, mt, no, nc, nt, wl, sn, sr) →
    (d = 0 → t0 = 4) → (∀ u' : SX, om_X V sn0 sr0 4 u' → post (om_fd V x1 d k) u') → ∀ F, d < F → wX_find_11 post x1 F (nI k) fs fm fr fk ft ow ce tg ve so sc st mo mc mt no nc nt wl sn sr := by
  intro d
  induction d with
  | zero =>
    intro k hk fs fm fr fk ft ow ce tg ve so sc st mo mc mt no nc nt wl sn sr t0 hX ht hK F hF
    obtain ⟨F, rfl⟩ : ∃ G, F = G + 1 := ⟨F - 1, by omega⟩
    rw [wX_find_11]
    dsimp only
    rw [ht rfl] at hX
    exact br_t (nI_le (a := 16) (by omega) (by omega)) (hK _ hX)
  | succ d ih =>
    intro k hk fs fm fr fk ft ow ce tg ve so sc st mo mc mt no nc nt wl sn sr t0 hX ht hK F hF
    obtain ⟨F, rfl⟩ : ∃ G, F = G + 1 := ⟨F - 1, by omega⟩
    rw [wX_find_11]
    dsimp only
    refine br_f (nI_ge (b := 16) (by omega) (by decide)) (om_acc hX (by omega) (Or.inl ⟨rfl, rfl⟩) ?_)
    intro u' hX'
    obtain ⟨fs1, fm1, fr1, fk1, ft1, ow1, ce1, tg1, ve1, so1, sc1, st1, mo1, mc1, mt1, no1, nc1, nt1, wl1, sn1, sr1⟩ := u'
    refine br_c (fun z => ?_) (fun z => ?_)
    · have H := hK _ hX'
      rw [om_fd, if_pos z] at H
      exact H
    · refine nm_r (nI_1 k) (ih (k + 1) (by omega) fs1 fm1 fr1 fk1 ft1 ow1 ce1 tg1 ve1 so1 sc1 st1 mo1 mc1 mt1 no1 nc1 nt1 wl1 sn1 sr1 4 hX' (fun _ => rfl) ?_ F (by omega))
      intro u2 hX2
      have H := hK _ hX2
      rw [om_fd, if_neg z] at H
      exact H
theorem om_fdy {post : Int32 → SY → Prop} {fu x1 : Int32} {V ol sa : Nat → Int32} : ∀ d k, k + d = 16 → post (om_fd V x1 d k) (fu, V, ol, sa) → ∀ F, d < F → wY_find_17 post x1 fu V ol sa F (nI k) := by
  intro d
  induction d with
  | zero =>
    intro k hk hK F hF
    obtain ⟨F, rfl⟩ : ∃ G, F = G + 1 := ⟨F - 1, by omega⟩
    rw [wY_find_17]
    dsimp only
    exact br_t (nI_le (a := 16) (by omega) (by omega)) hK
  | succ d ih =>
    intro k hk hK F hF
    obtain ⟨F, rfl⟩ : ∃ G, F = G + 1 := ⟨F - 1, by omega⟩
    have c1 : (nI k).toNatClampNeg = k := nI_clamp (by omega)
    rw [wY_find_17]
    dsimp only
    rw [c1]
    refine br_f (nI_ge (b := 16) (by omega) (by decide)) ⟨vp_in_nI (by omega) (by omega), br_c (fun z => ?_) (fun z => ?_)⟩
    · rw [om_fd, if_pos z] at hK
      exact hK
    · rw [om_fd, if_neg z] at hK
      exact nm_r (nI_1 k) (ih (k + 1) (by omega) hK F (by omega))
theorem i_vc_find {k : Nat} {u : SX} {v : SY} (I : i_Rel k u v) (hk : k + 5 ≤ 2561) (v1 : Int32) (v2 : Int32) : wpX_find (fun r u' => wpY_find (fun r' v' => r' = r ∧ i_Rel (k + 5) u' v') v v1 v2) u v1 v2 := by
  obtain ⟨fu, bl, ol, sa⟩ := v
  obtain ⟨sr0, t0, hX, ht⟩ := I
  obtain ⟨fs, fm, fr, fk, ft, ow, ce, tg, ve, so, sc, st, mo, mc, mt, no, nc, nt, wl, sn, sr⟩ := u
  unfold wpX_find
  dsimp only
  rcases om_blk v2 with hp | ⟨b, hb, rfl⟩
  · refine om_isF hp (br_t rfl ?_)
    unfold wpY_find
    dsimp only
    exact om_bdT hp (br_f om_10 ⟨rfl, sr0, t0, hX, ht⟩)
  · refine om_isT hb (br_f om_10 ⟨17, om_fdx (V := bl) (16 - b) b (by omega) fs fm fr fk ft ow ce tg ve so sc st mo mc mt no nc nt wl sn sr t0 hX (fun z => by omega) ?_ 17 (by omega)⟩)
    intro u' hX'
    unfold wpY_find
    dsimp only
    exact om_bdF hb (br_t rfl ⟨17, om_fdy (16 - b) b (by omega) ⟨rfl, sr0, 4, hX', Or.inr ⟨rfl, rfl⟩⟩ 17 (by omega)⟩)
end
section
/-! below, save, load, differing -/
def om_cn (P : Nat → Bool) : Nat → Nat
  | 0 => 0
  | k + 1 => om_cn P k + (if P k = true then 1 else 0)
theorem om_cnl (P : Nat → Bool) (k : Nat) : om_cn P k ≤ k := by
  induction k with
  | zero => exact Nat.le_refl 0
  | succ k ih =>
    rw [om_cn]
    by_cases h : P k = true
    · rw [if_pos h]; omega
    · rw [if_neg h]; omega
theorem om_cnt {P : Nat → Bool} {k : Nat} (h : P k = true) : om_cn P (k + 1) = om_cn P k + 1 := by rw [om_cn, if_pos h]
theorem om_cnf {P : Nat → Bool} {k : Nat} (h : ¬ P k = true) : om_cn P (k + 1) = om_cn P k := by rw [om_cn, if_neg h, Nat.add_zero]
theorem om_cnc {P Q : Nat → Bool} : ∀ k, (∀ i, i < k → P i = Q i) → om_cn P k = om_cn Q k := by
  intro k
  induction k with
  | zero => intro _; rfl
  | succ k ih =>
    intro h
    rw [om_cn, om_cn, ih (fun i hi => h i (by omega)), h k (by omega)]
def om_lt (f : Nat → Int32) (x : Int32) : Nat → Bool := fun j => decide (¬ x ≤ f j)
theorem om_bx {post : Int32 → SX → Prop} {fs fm fr fk ft : Int32} {ow ce tg ve so sc st mo mc mt no nc nt wl sn sr : Nat → Int32} {x1 : Int32} (hK : post (nI (om_cn (om_lt sr x1) 16)) (fs, fm, fr, fk, ft, ow, ce, tg, ve, so, sc, st, mo, mc, mt, no, nc, nt, wl, sn, sr)) : ∀ d k, k + d = 16 → ∀ F, d < F → wX_below_8 post x1 fs fm fr fk ft ow ce tg ve so sc st mo mc mt no nc nt wl sn sr F (nI (om_cn (om_lt sr x1) k)) (nI k) := by
  intro d
  induction d with
  | zero =>
    intro k hk F hF
    obtain ⟨F, rfl⟩ : ∃ G, F = G + 1 := ⟨F - 1, by omega⟩
    have ek : k = 16 := by omega
    subst ek
    rw [wX_below_8]
    dsimp only
    exact br_t (nI_le (a := 16) (Nat.le_refl _) (by omega)) hK
  | succ d ih =>
    intro k hk F hF
    obtain ⟨F, rfl⟩ : ∃ G, F = G + 1 := ⟨F - 1, by omega⟩
    have c1 : (nI k).toNatClampNeg = k := nI_clamp (by omega)
    have H := ih (k + 1) (by omega) F (by omega)
    rw [wX_below_8]
    dsimp only
    rw [c1]
    refine br_f (nI_ge (b := 16) (by omega) (by decide)) ⟨vp_in_nI (by omega) (by omega), br_c (fun z => ?_) (fun z => ?_)⟩
    · rw [om_cnf (P := om_lt sr x1) (k := k) (by intro w; exact of_decide_eq_true w z)] at H
      exact nm_r (nI_1 k) H
    · rw [om_cnt (P := om_lt sr x1) (k := k) (decide_eq_true z)] at H
      exact nm_r (nI_1 _) (nm_r (nI_1 k) H)
theorem om_by {post : Int32 → Prop} {fu x1 : Int32} {bl ol sa : Nat → Int32} (hK : post (nI (om_cn (om_lt bl x1) 16))) : ∀ d k, k + d = 16 → ∀ F, d < F → wY_less_4 post x1 fu bl ol sa F (nI (om_cn (om_lt bl x1) k)) (nI k) := by
  intro d
  induction d with
  | zero =>
    intro k hk F hF
    obtain ⟨F, rfl⟩ : ∃ G, F = G + 1 := ⟨F - 1, by omega⟩
    have ek : k = 16 := by omega
    subst ek
    rw [wY_less_4]
    dsimp only
    exact br_t (nI_le (a := 16) (Nat.le_refl _) (by omega)) hK
  | succ d ih =>
    intro k hk F hF
    obtain ⟨F, rfl⟩ : ∃ G, F = G + 1 := ⟨F - 1, by omega⟩
    have c1 : (nI k).toNatClampNeg = k := nI_clamp (by omega)
    have H := ih (k + 1) (by omega) F (by omega)
    rw [wY_less_4]
    dsimp only
    rw [c1]
    refine br_f (nI_ge (b := 16) (by omega) (by decide)) ⟨vp_in_nI (by omega) (by omega), br_c (fun z => ?_) (fun z => ?_)⟩
    · rw [om_cnf (P := om_lt bl x1) (k := k) (by intro w; exact of_decide_eq_true w z)] at H
      exact nm_r (nI_1 k) H
    · rw [om_cnt (P := om_lt bl x1) (k := k) (decide_eq_true z)] at H
      exact nm_r (nI_1 _) (nm_r (nI_1 k) H)
theorem om_less {post : Int32 → Prop} {fu x1 : Int32} {bl ol sa : Nat → Int32} (hK : post (nI (om_cn (om_lt bl x1) 16))) : wpY_less post (fu, bl, ol, sa) x1 := by
  unfold wpY_less
  dsimp only
  exact ⟨17, om_by hK 16 0 (by omega) 17 (by omega)⟩
def om_eq (f : Nat → Int32) (x : Int32) : Nat → Bool := fun j => decide (f j = x)
theorem om_sey {post : Int32 → Prop} {fu x1 : Int32} {bl ol sa : Nat → Int32} (hK : post (nI (om_cn (om_eq bl x1) 16))) : ∀ d k, k + d = 16 → ∀ F, d < F → wY_same_4 post x1 fu bl ol sa F (nI (om_cn (om_eq bl x1) k)) (nI k) := by
  intro d
  induction d with
  | zero =>
    intro k hk F hF
    obtain ⟨F, rfl⟩ : ∃ G, F = G + 1 := ⟨F - 1, by omega⟩
    have ek : k = 16 := by omega
    subst ek
    rw [wY_same_4]
    dsimp only
    exact br_t (nI_le (a := 16) (Nat.le_refl _) (by omega)) hK
  | succ d ih =>
    intro k hk F hF
    obtain ⟨F, rfl⟩ : ∃ G, F = G + 1 := ⟨F - 1, by omega⟩
    have c1 : (nI k).toNatClampNeg = k := nI_clamp (by omega)
    have H := ih (k + 1) (by omega) F (by omega)
    rw [wY_same_4]
    dsimp only
    rw [c1]
    refine br_f (nI_ge (b := 16) (by omega) (by decide)) ⟨vp_in_nI (by omega) (by omega), br_c (fun z => ?_) (fun z => ?_)⟩
    · rw [om_cnt (P := om_eq bl x1) (k := k) (decide_eq_true z)] at H
      exact nm_r (nI_1 _) (nm_r (nI_1 k) H)
    · rw [om_cnf (P := om_eq bl x1) (k := k) (by intro w; exact z (of_decide_eq_true w))] at H
      exact nm_r (nI_1 k) H
theorem om_same {post : Int32 → Prop} {fu x1 : Int32} {bl ol sa : Nat → Int32} (hK : post (nI (om_cn (om_eq bl x1) 16))) : wpY_same post (fu, bl, ol, sa) x1 := by
  unfold wpY_same
  dsimp only
  exact ⟨17, om_sey hK 16 0 (by omega) 17 (by omega)⟩
theorem i_vc_below {k : Nat} {u : SX} {v : SY} (I : i_Rel k u v) (hk : k + 5 ≤ 2561) (v1 : Int32) : wpX_below (fun r u' => wpY_below (fun r' v' => r' = r ∧ i_Rel (k + 5) u' v') v v1) u v1 := by
  obtain ⟨fu, bl, ol, sa⟩ := v
  obtain ⟨sr0, t0, hX, ht⟩ := I
  obtain ⟨fs, fm, fr, fk, ft, ow, ce, tg, ve, so, sc, st, mo, mc, mt, no, nc, nt, wl, sn, sr⟩ := u
  unfold wpX_below
  dsimp only
  refine om_gat hX ?_
  intro u1 sr9 hX1 hs1
  obtain ⟨fs1, fm1, fr1, fk1, ft1, ow1, ce1, tg1, ve1, so1, sc1, st1, mo1, mc1, mt1, no1, nc1, nt1, wl1, sn1, sr1⟩ := u1
  obtain ⟨_, er, _⟩ := om_Xr hX1
  refine ⟨17, om_bx ?_ 16 0 (by omega) 17 (by omega)⟩
  unfold wpY_below
  dsimp only
  refine om_less ⟨?_, sr9, 4, hX1, Or.inr ⟨rfl, rfl⟩⟩
  rw [er]
  refine congrArg nI (om_cnc 16 ?_)
  intro i hi
  unfold om_lt
  rw [hs1 i hi]
theorem om_shot (x : Int32) : (¬ x = 0 ∧ ¬ x = 1) ∨ ∃ s, s < 2 ∧ x = nI s := by
  by_cases h0 : x = 0
  · exact Or.inr ⟨0, by omega, h0⟩
  · by_cases h1 : x = 1
    · exact Or.inr ⟨1, by omega, h1⟩
    · exact Or.inl ⟨h0, h1⟩
theorem om_bsT {post : Int32 → Prop} {fu : Int32} {bl ol sa : Nat → Int32} {x : Int32} (hx : ¬ x = 0 ∧ ¬ x = 1) (h : post 1) : wpY_badShot post (fu, bl, ol, sa) x := by
  unfold wpY_badShot
  dsimp only
  by_cases z : x < 0
  · exact br_t z h
  · refine br_f z (br_f ?_ h)
    intro z2
    rcases pk_ix x (n := 2) (by decide) with h3 | h3 | ⟨j, hj, h3⟩
    · exact z h3
    · rw [Int32.le_iff_toInt_le, nI_toInt (by decide)] at h3
      rw [Int32.le_iff_toInt_le, show (1 : Int32).toInt = 1 from by decide] at z2
      omega
    · have hj2 : j = 0 ∨ j = 1 := by omega
      rcases hj2 with e | e
      · rw [e] at h3; exact hx.1 h3
      · rw [e] at h3; exact hx.2 h3
theorem om_bsF {post : Int32 → Prop} {fu : Int32} {bl ol sa : Nat → Int32} {s : Nat} (hs : s < 2) (h : post 0) : wpY_badShot post (fu, bl, ol, sa) (nI s) := by
  unfold wpY_badShot
  dsimp only
  exact br_f (nI_pos (by omega)) (br_t (nI_le (b := 1) (by omega) (by decide)) h)
theorem om_16s (s k : Nat) : (16 : Int32) * nI s + nI k = nI (16 * s + k) := by
  rw [show (16 : Int32) = nI 16 from rfl, pk_mul, nI_add]
theorem om_sh2 {A B : Prop} {s : Nat} (hs : s < 2) (h : A) : ((nI s = 0 → A) ∧ (¬ nI s = 0 → ((nI s = 1 → A) ∧ (¬ nI s = 1 → B)))) := by
  have hj2 : s = 0 ∨ s = 1 := by omega
  rcases hj2 with e | e
  · subst e
    exact br_t rfl h
  · subst e
    exact br_f (by decide) (br_t rfl h)
def om_sv (S g : Nat → Int32) (s : Nat) : Nat → Nat → Int32
  | 0 => S
  | k + 1 => upd (om_sv S g s k) (16 * s + k) (g k)
theorem om_svc {S g h : Nat → Int32} {s : Nat} : ∀ k, (∀ i, i < k → g i = h i) → om_sv S g s k = om_sv S h s k := by
  intro k
  induction k with
  | zero => intro _; rfl
  | succ k ih =>
    intro e
    rw [om_sv, om_sv, ih (fun i hi => e i (by omega)), e k (by omega)]
theorem om_svx {post : Int32 → SX → Prop} {fs fm fr fk ft : Int32} {ow ce tg ve so sc st mo mc mt no nc nt wl : Nat → Int32} {S sr : Nat → Int32} {s : Nat} (hs : s < 2) (hK : post 0 (fs, fm, fr, fk, ft, ow, ce, tg, ve, so, sc, st, mo, mc, mt, no, nc, nt, wl, om_sv S sr s 16, sr)) : ∀ d k, k + d = 16 → ∀ F, d < F →
    wX_save_17 post (nI s) fs fm fr fk ft F (nI k) ow ce tg ve so sc st mo mc mt no nc nt wl (om_sv S sr s k) sr := by
  intro d
  induction d with
  | zero =>
    intro k hk F hF
    obtain ⟨F, rfl⟩ : ∃ G, F = G + 1 := ⟨F - 1, by omega⟩
    have ek : k = 16 := by omega
    subst ek
    rw [wX_save_17]
    dsimp only
    exact br_t (nI_le (a := 16) (Nat.le_refl _) (by omega)) hK
  | succ d ih =>
    intro k hk F hF
    obtain ⟨F, rfl⟩ : ∃ G, F = G + 1 := ⟨F - 1, by omega⟩
    have c1 : (nI k).toNatClampNeg = k := nI_clamp (by omega)
    have c2 : (nI (16 * s + k)).toNatClampNeg = 16 * s + k := nI_clamp (by omega)
    rw [wX_save_17]
    dsimp only
    rw [om_16s, c1, c2]
    exact br_f (nI_ge (b := 16) (by omega) (by decide)) ⟨vp_in_nI (by omega) (by omega), vp_in_nI (by omega) (by omega), nm_e (nm_r (nI_1 k) (ih (k + 1) (by omega) F (by omega)))⟩
theorem om_svy {post : Int32 → SY → Prop} {fu : Int32} {S bl ol : Nat → Int32} {s : Nat} (hs : s < 2) (hK : post 0 (fu, bl, ol, om_sv S bl s 16)) : ∀ d k, k + d = 16 → ∀ F, d < F →
    wY_save_17 post (nI s) fu F (nI k) bl ol (om_sv S bl s k) := by
  intro d
  induction d with
  | zero =>
    intro k hk F hF
    obtain ⟨F, rfl⟩ : ∃ G, F = G + 1 := ⟨F - 1, by omega⟩
    have ek : k = 16 := by omega
    subst ek
    rw [wY_save_17]
    dsimp only
    exact br_t (nI_le (a := 16) (Nat.le_refl _) (by omega)) hK
  | succ d ih =>
    intro k hk F hF
    obtain ⟨F, rfl⟩ : ∃ G, F = G + 1 := ⟨F - 1, by omega⟩
    have c1 : (nI k).toNatClampNeg = k := nI_clamp (by omega)
    have c2 : (nI (16 * s + k)).toNatClampNeg = 16 * s + k := nI_clamp (by omega)
    rw [wY_save_17]
    dsimp only
    rw [om_16s, c1, c2]
    exact br_f (nI_ge (b := 16) (by omega) (by decide)) ⟨vp_in_nI (by omega) (by omega), vp_in_nI (by omega) (by omega), nm_e (nm_r (nI_1 k) (ih (k + 1) (by omega) F (by omega)))⟩
theorem i_vc_save {k : Nat} {u : SX} {v : SY} (I : i_Rel k u v) (hk : k + 5 ≤ 2561) (v1 : Int32) : wpX_save (fun r u' => wpY_save (fun r' v' => r' = r ∧ i_Rel (k + 5) u' v') v v1) u v1 := by
  obtain ⟨fu, bl, ol, sa⟩ := v
  obtain ⟨sr0, t0, hX, ht⟩ := I
  obtain ⟨fs, fm, fr, fk, ft, ow, ce, tg, ve, so, sc, st, mo, mc, mt, no, nc, nt, wl, sn, sr⟩ := u
  unfold wpX_save
  dsimp only
  rcases om_shot v1 with hp | ⟨s, hs, rfl⟩
  · refine br_f hp.1 (br_f hp.2 ?_)
    unfold wpY_save
    dsimp only
    exact om_bsT hp (br_f om_10 ⟨rfl, sr0, t0, hX, ht⟩)
  · refine om_sh2 hs ?_
    unfold wX_save_11
    refine om_gat hX ?_
    intro u1 sr9 hX1 hs1
    obtain ⟨fs1, fm1, fr1, fk1, ft1, ow1, ce1, tg1, ve1, so1, sc1, st1, mo1, mc1, mt1, no1, nc1, nt1, wl1, sn1, sr1⟩ := u1
    obtain ⟨en, er, _⟩ := om_Xr hX1
    subst en
    subst er
    refine ⟨17, om_svx (S := sn1) hs ?_ 16 0 (by omega) 17 (by omega)⟩
    unfold wpY_save
    dsimp only
    refine om_bsF hs (br_t rfl ⟨17, om_svy (S := sn1) hs ⟨rfl, sr1, 4, ?_, Or.inr ⟨rfl, rfl⟩⟩ 16 0 (by omega) 17 (by omega)⟩)
    rw [om_svc 16 hs1]
    exact om_Xs hX1
def om_df (f g : Nat → Int32) (s : Nat) : Nat → Bool := fun j => decide (¬ f j = g (16 * s + j))
theorem om_dfx {post : Int32 → SX → Prop} {fs fm fr fk ft : Int32} {ow ce tg ve so sc st mo mc mt no nc nt wl sn sr : Nat → Int32} {s : Nat} (hs : s < 2) (hK : post (nI (om_cn (om_df sr sn s) 16)) (fs, fm, fr, fk, ft, ow, ce, tg, ve, so, sc, st, mo, mc, mt, no, nc, nt, wl, sn, sr)) : ∀ d k, k + d = 16 → ∀ F, d < F →
    wX_differing_19 post (nI s) fs fm fr fk ft ow ce tg ve so sc st mo mc mt no nc nt wl sn sr F (nI (om_cn (om_df sr sn s) k)) (nI k) := by
  intro d
  induction d with
  | zero =>
    intro k hk F hF
    obtain ⟨F, rfl⟩ : ∃ G, F = G + 1 := ⟨F - 1, by omega⟩
    have ek : k = 16 := by omega
    subst ek
    rw [wX_differing_19]
    dsimp only
    exact br_t (nI_le (a := 16) (Nat.le_refl _) (by omega)) hK
  | succ d ih =>
    intro k hk F hF
    obtain ⟨F, rfl⟩ : ∃ G, F = G + 1 := ⟨F - 1, by omega⟩
    have c1 : (nI k).toNatClampNeg = k := nI_clamp (by omega)
    have c2 : (nI (16 * s + k)).toNatClampNeg = 16 * s + k := nI_clamp (by omega)
    have H := ih (k + 1) (by omega) F (by omega)
    rw [wX_differing_19]
    dsimp only
    rw [om_16s, c1, c2]
    refine br_f (nI_ge (b := 16) (by omega) (by decide)) ⟨vp_in_nI (by omega) (by omega), vp_in_nI (by omega) (by omega), br_c (fun z => ?_) (fun z => ?_)⟩
    · rw [om_cnf (P := om_df sr sn s) (k := k) (by intro w; exact of_decide_eq_true w z)] at H
      exact nm_r (nI_1 k) H
    · rw [om_cnt (P := om_df sr sn s) (k := k) (decide_eq_true z)] at H
      exact nm_r (nI_1 _) (nm_r (nI_1 k) H)
theorem om_dfy {post : Int32 → SY → Prop} {fu : Int32} {bl ol sa : Nat → Int32} {s : Nat} (hs : s < 2) (hK : post (nI (om_cn (om_df bl sa s) 16)) (fu, bl, ol, sa)) : ∀ d k, k + d = 16 → ∀ F, d < F →
    wY_differing_19 post (nI s) fu bl ol sa F (nI (om_cn (om_df bl sa s) k)) (nI k) := by
  intro d
  induction d with
  | zero =>
    intro k hk F hF
    obtain ⟨F, rfl⟩ : ∃ G, F = G + 1 := ⟨F - 1, by omega⟩
    have ek : k = 16 := by omega
    subst ek
    rw [wY_differing_19]
    dsimp only
    exact br_t (nI_le (a := 16) (Nat.le_refl _) (by omega)) hK
  | succ d ih =>
    intro k hk F hF
    obtain ⟨F, rfl⟩ : ∃ G, F = G + 1 := ⟨F - 1, by omega⟩
    have c1 : (nI k).toNatClampNeg = k := nI_clamp (by omega)
    have c2 : (nI (16 * s + k)).toNatClampNeg = 16 * s + k := nI_clamp (by omega)
    have H := ih (k + 1) (by omega) F (by omega)
    rw [wY_differing_19]
    dsimp only
    rw [om_16s, c1, c2]
    refine br_f (nI_ge (b := 16) (by omega) (by decide)) ⟨vp_in_nI (by omega) (by omega), vp_in_nI (by omega) (by omega), br_c (fun z => ?_) (fun z => ?_)⟩
    · rw [om_cnf (P := om_df bl sa s) (k := k) (by intro w; exact of_decide_eq_true w z)] at H
      exact nm_r (nI_1 k) H
    · rw [om_cnt (P := om_df bl sa s) (k := k) (decide_eq_true z)] at H
      exact nm_r (nI_1 _) (nm_r (nI_1 k) H)
theorem om_diff {post : Int32 → SY → Prop} {fu : Int32} {bl ol sa : Nat → Int32} {s : Nat} (hs : s < 2) (hK : post (nI (om_cn (om_df bl sa s) 16)) (1, bl, ol, sa)) : wpY_differing post (fu, bl, ol, sa) (nI s) := by
  unfold wpY_differing
  dsimp only
  exact om_bsF hs (br_t rfl ⟨17, om_dfy hs hK 16 0 (by omega) 17 (by omega)⟩)
theorem i_vc_differing {k : Nat} {u : SX} {v : SY} (I : i_Rel k u v) (hk : k + 5 ≤ 2561) (v1 : Int32) : wpX_differing (fun r u' => wpY_differing (fun r' v' => r' = r ∧ i_Rel (k + 5) u' v') v v1) u v1 := by
  obtain ⟨fu, bl, ol, sa⟩ := v
  obtain ⟨sr0, t0, hX, ht⟩ := I
  obtain ⟨fs, fm, fr, fk, ft, ow, ce, tg, ve, so, sc, st, mo, mc, mt, no, nc, nt, wl, sn, sr⟩ := u
  unfold wpX_differing
  dsimp only
  rcases om_shot v1 with hp | ⟨s, hs, rfl⟩
  · refine br_f hp.1 (br_f hp.2 ?_)
    unfold wpY_differing
    dsimp only
    exact om_bsT hp (br_f om_10 ⟨rfl, sr0, t0, hX, ht⟩)
  · refine om_sh2 hs ?_
    unfold wX_differing_11
    refine om_gat hX ?_
    intro u1 sr9 hX1 hs1
    obtain ⟨fs1, fm1, fr1, fk1, ft1, ow1, ce1, tg1, ve1, so1, sc1, st1, mo1, mc1, mt1, no1, nc1, nt1, wl1, sn1, sr1⟩ := u1
    obtain ⟨en, er, _⟩ := om_Xr hX1
    subst en
    subst er
    refine ⟨17, om_dfx hs ?_ 16 0 (by omega) 17 (by omega)⟩
    refine om_diff hs ⟨congrArg nI (om_cnc 16 ?_), sr1, 4, hX1, Or.inr ⟨rfl, rfl⟩⟩
    intro i hi
    unfold om_df
    rw [hs1 i hi]
def om_ld (V S : Nat → Int32) (s : Nat) : Nat → Nat → Int32
  | 0 => V
  | k + 1 => upd (om_ld V S s k) k (S (16 * s + k))
theorem om_ldh (V S : Nat → Int32) (s : Nat) : ∀ k i, k ≤ i → om_ld V S s k i = V i := by
  intro k
  induction k with
  | zero => intro i _; rfl
  | succ k ih =>
    intro i hi
    rw [om_ld, pk_un (by omega)]
    exact ih i (by omega)
theorem om_ldx {post : Int32 → SX → Prop} {V sn0 sr0 : Nat → Int32} {s : Nat} (hs : s < 2) : ∀ d k, k + d = 16 → ∀ (fs fm fr fk ft : Int32) (ow ce tg ve so sc st mo mc mt no nc nt wl sn sr : Nat → Int32) (t0 : Int32), om_X (om_ld V sn0 s k) sn0 sr0 t0 (fs, fm, fr, fk, ft, ow, ce, tg, ve, so, sc, st, mo, mc, mt, no, nc, nt, wl, sn, sr) →
    (d = 0 → t0 = 4) → (∀ u' : SX, om_X (om_ld V sn0 s 16) sn0 sr0 4 u' → post (nI (om_cn (om_df V sn0 s) 16)) u') → ∀ F, d < F →
    wX_load_15 post (nI s) F (nI (om_cn (om_df V sn0 s) k)) (nI k) fs fm fr fk ft ow ce tg ve so sc st mo mc mt no nc nt wl sn sr := by
  intro d
  induction d with
  | zero =>
    intro k hk fs fm fr fk ft ow ce tg ve so sc st mo mc mt no nc nt wl sn sr t0 hX ht hK F hF
    obtain ⟨F, rfl⟩ : ∃ G, F = G + 1 := ⟨F - 1, by omega⟩
    have ek : k = 16 := by omega
    subst ek
    rw [wX_load_15]
    dsimp only
    rw [ht rfl] at hX
    exact br_t (nI_le (a := 16) (Nat.le_refl _) (by omega)) (hK _ hX)
  | succ d ih =>
    intro k hk fs fm fr fk ft ow ce tg ve so sc st mo mc mt no nc nt wl sn sr t0 hX ht hK F hF
    obtain ⟨F, rfl⟩ : ∃ G, F = G + 1 := ⟨F - 1, by omega⟩
    have c2 : (nI (16 * s + k)).toNatClampNeg = 16 * s + k := nI_clamp (by omega)
    obtain ⟨en, _, _⟩ := om_Xr hX
    have eV := om_ldh V sn0 s k k (Nat.le_refl k)
    rw [wX_load_15]
    dsimp only
    rw [om_16s, c2]
    refine br_f (nI_ge (b := 16) (by omega) (by decide)) ⟨vp_in_nI (by omega) (by omega), nm_r (congrFun en _) (om_acc hX (by omega) (Or.inr ⟨om_10, rfl⟩) ?_)⟩
    intro u' hX'
    obtain ⟨fs1, fm1, fr1, fk1, ft1, ow1, ce1, tg1, ve1, so1, sc1, st1, mo1, mc1, mt1, no1, nc1, nt1, wl1, sn1, sr1⟩ := u'
    have H := ih (k + 1) (by omega) fs1 fm1 fr1 fk1 ft1 ow1 ce1 tg1 ve1 so1 sc1 st1 mo1 mc1 mt1 no1 nc1 nt1 wl1 sn1 sr1 4 hX' (fun _ => rfl) hK F (by omega)
    rw [eV]
    refine br_c (fun z => ?_) (fun z => ?_)
    · rw [om_cnf (P := om_df V sn0 s) (k := k) (by intro w; exact of_decide_eq_true w z)] at H
      exact nm_r (nI_1 k) H
    · rw [om_cnt (P := om_df V sn0 s) (k := k) (decide_eq_true z)] at H
      exact nm_r (nI_1 _) (nm_r (nI_1 k) H)
theorem om_ldy {post : Int32 → SY → Prop} {fu x2 : Int32} {V ol sa : Nat → Int32} {s : Nat} (hs : s < 2) (hK : post x2 (fu, om_ld V sa s 16, ol, sa)) : ∀ d k, k + d = 16 → ∀ F, d < F →
    wY_load_18 post (nI s) x2 fu F (nI k) (om_ld V sa s k) ol sa := by
  intro d
  induction d with
  | zero =>
    intro k hk F hF
    obtain ⟨F, rfl⟩ : ∃ G, F = G + 1 := ⟨F - 1, by omega⟩
    have ek : k = 16 := by omega
    subst ek
    rw [wY_load_18]
    dsimp only
    exact br_t (nI_le (a := 16) (Nat.le_refl _) (by omega)) hK
  | succ d ih =>
    intro k hk F hF
    obtain ⟨F, rfl⟩ : ∃ G, F = G + 1 := ⟨F - 1, by omega⟩
    have c1 : (nI k).toNatClampNeg = k := nI_clamp (by omega)
    have c2 : (nI (16 * s + k)).toNatClampNeg = 16 * s + k := nI_clamp (by omega)
    rw [wY_load_18]
    dsimp only
    rw [om_16s, c1, c2]
    exact br_f (nI_ge (b := 16) (by omega) (by decide)) ⟨vp_in_nI (by omega) (by omega), vp_in_nI (by omega) (by omega), nm_e (nm_r (nI_1 k) (ih (k + 1) (by omega) F (by omega)))⟩
theorem i_vc_load {k : Nat} {u : SX} {v : SY} (I : i_Rel k u v) (hk : k + 5 ≤ 2561) (v1 : Int32) : wpX_load (fun r u' => wpY_load (fun r' v' => r' = r ∧ i_Rel (k + 5) u' v') v v1) u v1 := by
  obtain ⟨fu, bl, ol, sa⟩ := v
  obtain ⟨sr0, t0, hX, ht⟩ := I
  obtain ⟨fs, fm, fr, fk, ft, ow, ce, tg, ve, so, sc, st, mo, mc, mt, no, nc, nt, wl, sn, sr⟩ := u
  unfold wpX_load
  dsimp only
  rcases om_shot v1 with hp | ⟨s, hs, rfl⟩
  · refine br_f hp.1 (br_f hp.2 ?_)
    unfold wpY_load
    dsimp only
    exact om_bsT hp (br_f om_10 ⟨rfl, sr0, t0, hX, ht⟩)
  · refine om_sh2 hs ⟨17, om_ldx (V := bl) hs 16 0 (by omega) fs fm fr fk ft ow ce tg ve so sc st mo mc mt no nc nt wl sn sr t0 hX (fun z => absurd z (by decide)) ?_ 17 (by omega)⟩
    intro u' hX'
    unfold wpY_load
    dsimp only
    refine om_bsF hs (br_t rfl (om_diff hs ?_))
    exact ⟨17, om_ldy (V := bl) hs ⟨rfl, sr0, 4, hX', Or.inr ⟨rfl, rfl⟩⟩ 16 0 (by omega) 17 (by omega)⟩
end
section
/-! ranked: an insertion sort against counting -/
theorem om_lo {P : Nat → Bool} {k : Nat} : ∀ n, (∀ j, k ≤ j → j < n → ¬ P j = true) → om_cn P n ≤ k := by
  intro n
  induction n with
  | zero => intro _; exact Nat.zero_le k
  | succ n ih =>
    intro h
    by_cases e : k ≤ n
    · rw [om_cnf (h n e (Nat.lt_succ_self n))]
      exact ih (fun j h1 h2 => h j h1 (by omega))
    · have := om_cnl P (n + 1)
      omega
theorem om_hi {P : Nat → Bool} : ∀ n k, k ≤ n → (∀ j, j < k → P j = true) → k ≤ om_cn P n := by
  intro n
  induction n with
  | zero => intro k hk _; omega
  | succ n ih =>
    intro k hk h
    by_cases e : k ≤ n
    · have h1 := ih k e h
      rw [om_cn]
      omega
    · have h1 := ih n (Nat.le_refl n) (fun j hj => h j (by omega))
      rw [om_cnt (h n (by omega))]
      omega
theorem om_lz {P : Nat → Bool} : ∀ n, om_cn P n = 0 → ∀ j, j < n → ¬ P j = true := by
  intro n
  induction n with
  | zero => intro _ j hj; omega
  | succ n ih =>
    intro h j hj
    rw [om_cn] at h
    by_cases e : j = n
    · intro z
      rw [← e, if_pos z] at h
      omega
    · exact ih (by omega) j (by omega)
theorem om_ad {P Q R : Nat → Bool} : ∀ n, (∀ j, j < n → (P j = true ∧ ¬ Q j = true ∧ R j = true) ∨ (¬ P j = true ∧ Q j = true ∧ R j = true) ∨ (¬ P j = true ∧ ¬ Q j = true ∧ ¬ R j = true)) →
    om_cn P n + om_cn Q n = om_cn R n := by
  intro n
  induction n with
  | zero => intro _; rfl
  | succ n ih =>
    intro h
    have h1 := ih (fun j hj => h j (by omega))
    rcases h n (Nat.lt_succ_self n) with ⟨a, b, c⟩ | ⟨a, b, c⟩ | ⟨a, b, c⟩
    · rw [om_cnt a, om_cnf b, om_cnt c]; omega
    · rw [om_cnf a, om_cnt b, om_cnt c]; omega
    · rw [om_cnf a, om_cnf b, om_cnf c]; omega
theorem om_cu (P : Int32 → Bool) (g : Nat → Int32) (k : Nat) (x : Int32) : ∀ n, k < n →
    om_cn (fun j => P (upd g k x j)) n + (if P (g k) = true then 1 else 0) = om_cn (fun j => P (g j)) n + (if P x = true then 1 else 0) := by
  intro n
  induction n with
  | zero => intro h; omega
  | succ n ih =>
    intro h
    rw [om_cn, om_cn]
    by_cases e : k = n
    · subst e
      rw [om_cnc (P := fun j => P (upd g k x j)) (Q := fun j => P (g j)) k (fun i hi => by rw [pk_un (by omega)]), pk_us]
      omega
    · have h1 := ih (by omega)
      rw [pk_un (show n ≠ k by omega)]
      omega
def om_So (g : Nat → Int32) (i : Nat) : Prop := ∀ p q, p < q → q < i → (g p).toInt ≤ (g q).toInt
def om_Pm (f g : Nat → Int32) : Prop := ∀ P : Int32 → Bool, om_cn (fun j => P (f j)) 16 = om_cn (fun j => P (g j)) 16
def om_Ho (f g : Nat → Int32) (a i : Nat) (x : Int32) : Prop :=
  (∀ p q, p < q → q ≤ i → p ≠ a → q ≠ a → (g p).toInt ≤ (g q).toInt) ∧ (∀ q, a < q → q ≤ i → x.toInt ≤ (g q).toInt) ∧ om_Pm f (upd g a x)
theorem om_Ho0 {f g : Nat → Int32} {i : Nat} (hs : om_So g i) (hp : om_Pm f g) : om_Ho f g i i (g i) := by
  refine ⟨?_, ?_, ?_⟩
  · intro p q h1 h2 h3 h4
    exact hs p q h1 (by omega)
  · intro q h1 h2
    omega
  · rw [om_self]
    exact hp
/-- the moving one finds its place -/
theorem om_HoE {f g : Nat → Int32} {a i : Nat} {x : Int32} (h : om_Ho f g a i x) (hz : ∀ p, p + 1 = a → (g p).toInt ≤ x.toInt) (ha : a ≤ i) : om_So (upd g a x) (i + 1) := by
  obtain ⟨h1, h2, _⟩ := h
  intro p q hpq hq
  by_cases e1 : p = a
  · rw [e1, pk_us, pk_un (show q ≠ a by omega)]
    exact h2 q (by omega) (by omega)
  · rw [pk_un e1]
    by_cases e2 : q = a
    · rw [e2, pk_us]
      have z := hz (a - 1) (by omega)
      by_cases e3 : p = a - 1
      · rw [e3]; exact z
      · have := h1 p (a - 1) (by omega) (by omega) e1 (by omega)
        omega
    · rw [pk_un e2]
      exact h1 p q hpq (by omega) e1 e2
/-- one step down -/
theorem om_HoS {f g : Nat → Int32} {a i : Nat} {x : Int32} (h : om_Ho f g (a + 1) i x) (hz : ¬ (g a).toInt ≤ x.toInt) (ha : a + 1 ≤ i) (hi : i < 16) : om_Ho f (upd g (a + 1) (g a)) a i x := by
  obtain ⟨h1, h2, h3⟩ := h
  refine ⟨?_, ?_, ?_⟩
  · intro p q hpq hq e1 e2
    by_cases e3 : p = a + 1
    · rw [e3, pk_us, pk_un (show q ≠ a + 1 by omega)]
      exact h1 a q (by omega) hq (by omega) (by omega)
    · rw [pk_un e3]
      by_cases e4 : q = a + 1
      · rw [e4, pk_us]
        exact h1 p a (by omega) (by omega) e3 (by omega)
      · rw [pk_un e4]
        exact h1 p q hpq hq e3 e4
  · intro q hq1 hq2
    by_cases e4 : q = a + 1
    · rw [e4, pk_us]
      omega
    · rw [pk_un e4]
      exact h2 q (by omega) hq2
  · intro P
    rw [h3 P]
    have k1 := om_cu P g (a + 1) x 16 (by omega)
    have k2 := om_cu P g (a + 1) (g a) 16 (by omega)
    have k3 := om_cu P (upd g (a + 1) (g a)) a x 16 (by omega)
    rw [pk_un (show a ≠ a + 1 by omega)] at k3
    omega
section
variable {post : Int32 → SX → Prop} {f : Nat → Int32} {fs fm fr fk ft : Int32} {ow ce tg ve so sc st mo mc mt no nc nt wl sn : Nat → Int32}
theorem om_k31 {J15 : Int32 → (Nat → Int32) → (Nat → Int32) → (Nat → Int32) → (Nat → Int32) → (Nat → Int32) → (Nat → Int32) → (Nat → Int32) → (Nat → Int32) → (Nat → Int32) → (Nat → Int32) → (Nat → Int32) → (Nat → Int32) → (Nat → Int32) → (Nat → Int32) → (Nat → Int32) → (Nat → Int32) → Prop} {x1 x : Int32} {i : Nat} (hi : i < 16) (hK : ∀ g, om_So g (i + 1) → om_Pm f g → J15 (nI (i + 1)) ow ce tg ve so sc st mo mc mt no nc nt wl sn g) :
    ∀ a g, a ≤ i → om_Ho f g a i x → ∀ F, a < F → wX_ranked_31 post J15 x1 (nI i) x fs fm fr fk ft F (nI a) ow ce tg ve so sc st mo mc mt no nc nt wl sn g := by
  intro a
  induction a with
  | zero =>
    intro g ha hH F hF
    obtain ⟨F, rfl⟩ : ∃ G, F = G + 1 := ⟨F - 1, by omega⟩
    have c1 : (nI 0).toNatClampNeg = 0 := nI_clamp (by omega)
    have v1 : vp_in (nI 0) 16 := vp_in_nI (by omega) (by omega)
    have h0 : nI 0 ≤ 0 := by decide
    rw [wX_ranked_31]
    dsimp only
    rw [c1]
    exact br_t h0 ⟨v1, nm_e (nm_r (nI_1 i) (hK _ (om_HoE hH (fun p hp => by omega) ha) hH.2.2))⟩
  | succ a ih =>
    intro g ha hH F hF
    obtain ⟨F, rfl⟩ : ∃ G, F = G + 1 := ⟨F - 1, by omega⟩
    have c1 : (nI (a + 1)).toNatClampNeg = a + 1 := nI_clamp (by omega)
    have c2 : (nI a).toNatClampNeg = a := nI_clamp (by omega)
    have v1 : vp_in (nI (a + 1)) 16 := vp_in_nI (by omega) (by omega)
    have v2 : vp_in (nI a) 16 := vp_in_nI (by omega) (by omega)
    have h0 : ¬ nI (a + 1) ≤ 0 := nI_nle (by omega) (by omega)
    rw [wX_ranked_31]
    dsimp only
    rw [nI_pred a, c1, c2]
    refine br_f h0 ⟨v2, br_c (fun z => ?_) (fun z => ?_)⟩
    · rw [Int32.le_iff_toInt_le] at z
      refine ⟨v1, nm_e (nm_r (nI_1 i) (hK _ (om_HoE hH (fun p hp => ?_) ha) hH.2.2))⟩
      have ep : p = a := by omega
      rw [ep]
      exact z
    · rw [Int32.le_iff_toInt_le] at z
      exact ⟨v2, v1, nm_e (nm_r (pk_m1 a) (ih _ (by omega) (om_HoS hH z ha hi) F (by omega)))⟩
theorem om_k15 {kk : Nat} (hk : kk < 16) (hK : ∀ g, om_So g 16 → om_Pm f g → post (g kk) (fs, fm, fr, fk, ft, ow, ce, tg, ve, so, sc, st, mo, mc, mt, no, nc, nt, wl, sn, g)) : ∀ d i g, i + d = 16 → om_So g i → om_Pm f g → ∀ F, d < F →
    wX_ranked_15 post (nI kk) fs fm fr fk ft F (nI i) ow ce tg ve so sc st mo mc mt no nc nt wl sn g := by
  have c0 : (nI kk).toNatClampNeg = kk := nI_clamp (by omega)
  intro d
  induction d with
  | zero =>
    intro i g hi hs hp F hF
    obtain ⟨F, rfl⟩ : ∃ G, F = G + 1 := ⟨F - 1, by omega⟩
    have ei : i = 16 := by omega
    subst ei
    rw [wX_ranked_15]
    dsimp only
    rw [c0]
    exact br_t (nI_le (a := 16) (Nat.le_refl _) (by omega)) ⟨vp_in_nI hk (by omega), hK g hs hp⟩
  | succ d ih =>
    intro i g hi hs hp F hF
    obtain ⟨F, rfl⟩ : ∃ G, F = G + 1 := ⟨F - 1, by omega⟩
    have c1 : (nI i).toNatClampNeg = i := nI_clamp (by omega)
    rw [wX_ranked_15]
    dsimp only
    rw [c1]
    refine br_f (nI_ge (b := 16) (by omega) (by decide)) ⟨vp_in_nI (by omega) (by omega), nm_e ⟨i + 1, ?_⟩⟩
    exact om_k31 (by omega) (fun g' hs' hp' => ih (i + 1) g' (by omega) hs' hp' F (by omega)) i g (Nat.le_refl i) (om_Ho0 hs hp) (i + 1) (by omega)
end
/-- what counting says of the sorted one -/
theorem om_rkA {f g : Nat → Int32} (hp : om_Pm f g) (y : Int32) : om_cn (om_lt f y) 16 = om_cn (om_lt g y) 16 := hp (fun z => decide (¬ y ≤ z))
theorem om_rkE {f g : Nat → Int32} (hp : om_Pm f g) (y : Int32) : om_cn (om_eq f y) 16 = om_cn (om_eq g y) 16 := hp (fun z => decide (z = y))
theorem om_rkS {g : Nat → Int32} (hs : om_So g 16) {p q : Nat} (h : p ≤ q) (hq : q < 16) : (g p).toInt ≤ (g q).toInt := by
  by_cases e : p = q
  · rw [e]; exact Int.le_refl _
  · exact hs p q (by omega) hq
theorem om_ltT {g : Nat → Int32} {y : Int32} {j : Nat} : om_lt g y j = true ↔ (g j).toInt < y.toInt := by
  unfold om_lt
  rw [decide_eq_true_eq, Int32.le_iff_toInt_le]
  omega
theorem om_eqT {g : Nat → Int32} {y : Int32} {j : Nat} : om_eq g y j = true ↔ (g j).toInt = y.toInt := by
  unfold om_eq
  rw [decide_eq_true_eq, Int32.toInt_inj]
theorem om_rkR (g : Nat → Int32) (y : Int32) : om_cn (om_lt g y) 16 + om_cn (om_eq g y) 16 = om_cn (fun j => decide ((g j).toInt ≤ y.toInt)) 16 := by
  refine om_ad 16 ?_
  intro j _
  rw [om_ltT, om_eqT, decide_eq_true_eq]
  omega
/-- the sorted one's own value meets the condition -/
theorem om_rk1 {f g : Nat → Int32} {kk : Nat} (hs : om_So g 16) (hp : om_Pm f g) (hk : kk < 16) :
    om_cn (om_lt f (g kk)) 16 ≤ kk ∧ kk < om_cn (om_lt f (g kk)) 16 + om_cn (om_eq f (g kk)) 16 := by
  rw [om_rkA hp, om_rkE hp]
  constructor
  · refine om_lo 16 ?_
    intro j h1 h2 h3
    rw [om_ltT] at h3
    have := om_rkS hs h1 h2
    omega
  · rw [om_rkR]
    refine om_hi 16 (kk + 1) (by omega) ?_
    intro j hj
    exact decide_eq_true (om_rkS hs (by omega) hk)
/-- what meets the condition is the sorted one's value -/
theorem om_rk2 {f g : Nat → Int32} {kk : Nat} {y : Int32} (hs : om_So g 16) (hp : om_Pm f g) (hk : kk < 16)
    (h1 : om_cn (om_lt f y) 16 ≤ kk) (h2 : kk < om_cn (om_lt f y) 16 + om_cn (om_eq f y) 16) : y = g kk := by
  rw [om_rkA hp] at h1 h2
  rw [om_rkE hp, om_rkR] at h2
  apply Int32.toInt_inj.mp
  rcases Int.lt_trichotomy y.toInt (g kk).toInt with h | h | h
  · exfalso
    have := om_lo (P := fun j => decide ((g j).toInt ≤ y.toInt)) (k := kk) 16 (by
      intro j h3 h4 h5
      have h6 := of_decide_eq_true h5
      have h7 := om_rkS hs h3 h4
      omega)
    omega
  · exact h
  · exfalso
    have := om_hi (P := om_lt g y) 16 (kk + 1) (by omega) (by
      intro j hj
      rw [om_ltT]
      have h7 := om_rkS hs (show j ≤ kk by omega) hk
      omega)
    omega
/-- the value is somewhere -/
theorem om_rk3 {f g : Nat → Int32} {kk : Nat} (hp : om_Pm f g) (hk : kk < 16) : ∃ i, i < 16 ∧ f i = g kk := by
  by_cases h : ∃ i, i < 16 ∧ f i = g kk
  · exact h
  · exfalso
    have h1 := om_lo (P := om_eq f (g kk)) (k := 0) 16 (by
      intro j _ hj h3
      exact h ⟨j, hj, of_decide_eq_true h3⟩)
    rw [om_rkE hp] at h1
    have h2 : om_cn (om_eq g (g kk)) 16 ≠ 0 := by
      intro z
      have h3 := om_lz (P := om_eq g (g kk)) 16 z kk hk
      exact h3 (decide_eq_true rfl)
    omega
theorem om_ky {post : Int32 → SY → Prop} {fu : Int32} {f g ol sa : Nat → Int32} {kk : Nat} (hs : om_So g 16) (hp : om_Pm f g) (hk : kk < 16) (hK : post (g kk) (fu, f, ol, sa)) :
    ∀ d i, i + d = 16 → (∃ j, i ≤ j ∧ j < 16 ∧ f j = g kk) → ∀ F, d < F → wY_ranked_17 post (nI kk) fu f ol sa F (nI i) := by
  intro d
  induction d with
  | zero =>
    intro i hi hj F hF
    obtain ⟨j, h1, h2, _⟩ := hj
    omega
  | succ d ih =>
    intro i hi hj F hF
    obtain ⟨F, rfl⟩ : ∃ G, F = G + 1 := ⟨F - 1, by omega⟩
    have c1 : (nI i).toNatClampNeg = i := nI_clamp (by omega)
    have v1 : vp_in (nI i) 16 := vp_in_nI (by omega) (by omega)
    have hA := om_cnl (om_lt f (f i)) 16
    have hE := om_cnl (om_eq f (f i)) 16
    have hN : ¬ (om_cn (om_lt f (f i)) 16 ≤ kk ∧ kk < om_cn (om_lt f (f i)) 16 + om_cn (om_eq f (f i)) 16) → ∃ j, i + 1 ≤ j ∧ j < 16 ∧ f j = g kk := by
      intro z
      obtain ⟨j, h1, h2, h3⟩ := hj
      refine ⟨j, ?_, h2, h3⟩
      by_cases e : j = i
      · exfalso
        apply z
        rw [← e, h3]
        exact om_rk1 hs hp hk
      · omega
    rw [wY_ranked_17]
    dsimp only
    rw [c1]
    refine br_f (nI_ge (b := 16) (by omega) (by decide)) ⟨v1, om_less ⟨v1, om_same ?_⟩⟩
    rw [nI_add]
    refine br_c (fun z => ?_) (fun z => br_c (fun z2 => ?_) (fun z2 => ⟨v1, ?_⟩))
    · rw [nI_ltI (by omega) (by omega)] at z
      exact nm_r (nI_1 i) (ih (i + 1) (by omega) (hN (by omega)) F (by omega))
    · rw [nI_leI (by omega) (by omega)] at z2
      exact nm_r (nI_1 i) (ih (i + 1) (by omega) (hN (by omega)) F (by omega))
    · rw [nI_ltI (by omega) (by omega)] at z
      rw [nI_leI (by omega) (by omega)] at z2
      rw [om_rk2 hs hp hk (y := f i) (by omega) (by omega)]
      exact hK
theorem om_Pmc {f g : Nat → Int32} (h : ∀ i, i < 16 → g i = f i) : om_Pm f g := by
  intro P
  refine om_cnc 16 ?_
  intro i hi
  rw [h i hi]
theorem i_vc_ranked {k : Nat} {u : SX} {v : SY} (I : i_Rel k u v) (hk : k + 5 ≤ 2561) (v1 : Int32) : wpX_ranked (fun r u' => wpY_ranked (fun r' v' => r' = r ∧ i_Rel (k + 5) u' v') v v1) u v1 := by
  obtain ⟨fu, bl, ol, sa⟩ := v
  obtain ⟨sr0, t0, hX, ht⟩ := I
  obtain ⟨fs, fm, fr, fk, ft, ow, ce, tg, ve, so, sc, st, mo, mc, mt, no, nc, nt, wl, sn, sr⟩ := u
  unfold wpX_ranked
  dsimp only
  rcases om_blk v1 with hp | ⟨b, hb, rfl⟩
  · refine om_isF hp (br_t rfl ?_)
    unfold wpY_ranked
    dsimp only
    exact om_bdT hp (br_f om_10 ⟨rfl, sr0, t0, hX, ht⟩)
  · refine om_isT hb (br_f om_10 (om_gat hX ?_))
    intro u1 sr9 hX1 hs1
    obtain ⟨fs1, fm1, fr1, fk1, ft1, ow1, ce1, tg1, ve1, so1, sc1, st1, mo1, mc1, mt1, no1, nc1, nt1, wl1, sn1, sr1⟩ := u1
    obtain ⟨en, er, _⟩ := om_Xr hX1
    subst er
    refine ⟨16, om_k15 (f := bl) hb ?_ 15 1 sr1 (by omega) (fun p q h1 h2 => by omega) (om_Pmc hs1) 16 (by omega)⟩
    intro g hs hp
    obtain ⟨i, hi, ei⟩ := om_rk3 hp hb
    unfold wpY_ranked
    dsimp only
    refine om_bdF hb (br_t rfl ⟨17, om_ky hs hp hb ⟨rfl, g, 4, ?_, Or.inr ⟨rfl, rfl⟩⟩ 16 0 (by omega) ⟨i, Nat.zero_le i, hi, ei⟩ 17 (by omega)⟩)
    rw [en]
    exact om_Xs hX1
end
section
/-! audit: every block is in one proper place -/
def om_i (p q : Nat) : Nat := if p < q then 1 else 0
theorem om_i1 {p q : Nat} (h : p < q) : om_i p q = 1 := if_pos h
theorem om_i0 {p q : Nat} (h : ¬ p < q) : om_i p q = 0 := if_neg h
section
variable {post : Int32 → Prop} {fs fm fr fk ft : Int32} {ow ce tg ve so sc st mo mc mt no nc nt wl sn sr : Nat → Int32}
theorem om_p29a {J5 : Int32 → Int32 → Prop} {x1 x3 : Int32} {l s : Nat} (hs : s < 64) (ht : tg s = nI l) (hK : J5 (x3 + 1) (nI (s + 1))) : ∀ d a, a + d = 4 → ∀ F, d < F →
    wX_placesOf_29 post J5 x1 (nI l) x3 (nI s) fs fm fr fk ft ow ce tg ve so sc st mo mc mt no nc nt wl sn sr F 1 (nI a) := by
  intro d
  induction d with
  | zero =>
    intro a ha F hF
    obtain ⟨F, rfl⟩ : ∃ G, F = G + 1 := ⟨F - 1, by omega⟩
    have c1 : (nI s).toNatClampNeg = s := nI_clamp (by omega)
    rw [wX_placesOf_29]
    dsimp only
    rw [c1]
    exact br_t (nI_le (a := 4) (by omega) (by omega)) (br_f om_10 ⟨vp_in_nI hs (by omega), br_t ht (nm_e (nm_r (nI_1 s) hK))⟩)
  | succ d ih =>
    intro a ha F hF
    obtain ⟨F, rfl⟩ : ∃ G, F = G + 1 := ⟨F - 1, by omega⟩
    rw [wX_placesOf_29]
    dsimp only
    exact br_f (nI_ge (b := 4) (by omega) (by decide)) (br_f om_10 (nm_r (nI_1 a) (ih (a + 1) (by omega) F (by omega))))
theorem om_p29b {J5 : Int32 → Int32 → Prop} {x1 x3 : Int32} {l s a0 : Nat} (hl : l < 8) (ha0 : a0 < 4) (hs : s < 64) (hq : s / 4 = om_bk l a0) (ht : tg s = nI l) (hK : J5 (x3 + 1) (nI (s + 1))) : ∀ d a, a + d = a0 → ∀ F, 4 - a < F →
    wX_placesOf_29 post J5 x1 (nI l) x3 (nI s) fs fm fr fk ft ow ce tg ve so sc st mo mc mt no nc nt wl sn sr F 0 (nI a) := by
  have e1 : nI s >>> ((2 : Int32) &&& 31) = nI (s / 4) := pk_shrN (by omega) _ 2 (by decide)
  intro d
  induction d with
  | zero =>
    intro a ha F hF
    obtain ⟨F, rfl⟩ : ∃ G, F = G + 1 := ⟨F - 1, by omega⟩
    have ea : a = a0 := by omega
    subst ea
    rw [wX_placesOf_29]
    dsimp only
    rw [e1, hq]
    exact br_f (nI_ge (b := 4) (by omega) (by decide)) (br_t rfl (om_bkt hl ha0 (br_t rfl (nm_r (nI_1 a) (om_p29a hs ht hK (4 - (a + 1)) (a + 1) (by omega) F (by omega))))))
  | succ d ih =>
    intro a ha F hF
    obtain ⟨F, rfl⟩ : ∃ G, F = G + 1 := ⟨F - 1, by omega⟩
    have R1 := om_bkR l hl a (by omega)
    have R2 := om_bkR l hl a0 ha0
    have hne : ¬ nI (om_bk l a) = nI (om_bk l a0) := by
      intro z
      have z2 := om_inj (by omega) (by omega) z
      have z3 := om_bkD l hl a (by omega) a0 ha0 z2
      omega
    rw [wX_placesOf_29]
    dsimp only
    rw [e1, hq]
    exact br_f (nI_ge (b := 4) (by omega) (by decide)) (br_t rfl (om_bkt hl (by omega) (br_f hne (nm_r (nI_1 a) (ih (a + 1) (by omega) F (by omega))))))
end
section
variable {post : Int32 → Prop} {fm fr fk ft : Int32} {ow ce tg ve so sc st mo mc mt no nc nt wl sn sr : Nat → Int32} {V : Nat → Int32} {L pos : Nat → Nat} {n b : Nat} {cx : Nat → Int32}
theorem om_p99 (I : om_In 16 64 4 om_P ow cx tg n so sc st V L pos) (hb : b < 16) (hK : post 1) : ∀ d i, i + d = n → ∀ F, d < F →
    wX_placesOf_99 post (nI b) (nI (L b)) (nI n) fm fr fk ft ow ce tg ve so sc st mo mc mt no nc nt wl sn sr F (nI (om_i (pos b) (64 + i))) (nI i) := by
  have hn := I.1
  intro d
  induction d with
  | zero =>
    intro i hi F hF
    obtain ⟨F, rfl⟩ : ∃ G, F = G + 1 := ⟨F - 1, by omega⟩
    have hp : pos b < 64 + i := by
      rcases I.2.1 b hb with h | ⟨j, hj, h, _⟩
      · omega
      · omega
    rw [wX_placesOf_99]
    dsimp only
    rw [om_i1 hp]
    exact br_t (nI_le (by omega) (by omega)) hK
  | succ d ih =>
    intro i hi F hF
    obtain ⟨F, rfl⟩ : ∃ G, F = G + 1 := ⟨F - 1, by omega⟩
    have c1 : (nI i).toNatClampNeg = i := nI_clamp (by omega)
    have vi : vp_in (nI i) 16 := vp_in_nI (by omega) (by omega)
    have H := ih (i + 1) (by omega) F (by omega)
    rw [wX_placesOf_99]
    dsimp only
    rw [c1]
    refine br_f (nI_ge (by omega) (by omega)) ⟨vi, br_c (fun z => ?_) (fun z => ?_)⟩
    · have hp := om_posS (by omega) I (show i < n by omega) hb z
      have T := om_stash I hb hp
      rw [om_i1 (show pos b < 64 + (i + 1) by omega)] at H
      rw [om_i0 (show ¬ pos b < 64 + i by omega)]
      exact ⟨vi, br_t T.2.2.2 (nm_r (nI_1 0) (nm_r (nI_1 i) H))⟩
    · have hp : pos b ≠ 64 + i := by
        intro e
        exact z (om_stash I hb e).2.1
      have ei : om_i (pos b) (64 + (i + 1)) = om_i (pos b) (64 + i) := by
        by_cases h : pos b < 64 + i
        · rw [om_i1 h, om_i1 (by omega)]
        · rw [om_i0 h, om_i0 (by omega)]
      rw [ei] at H
      exact nm_r (nI_1 i) H
theorem om_p5 (I : om_In 16 64 4 om_P ow cx tg n so sc st V L pos) (hL : ∀ b, b < 16 → L b < 8) (hb : b < 16) (hK : post 1) : ∀ d s, s + d = 64 → ∀ F, d < F →
    wX_placesOf_5 post (nI b) (nI (L b)) (nI n) fm fr fk ft ow ce tg ve so sc st mo mc mt no nc nt wl sn sr F (nI (om_i (pos b) s)) (nI s) := by
  intro d
  induction d with
  | zero =>
    intro s hs F hF
    obtain ⟨F, rfl⟩ : ∃ G, F = G + 1 := ⟨F - 1, by omega⟩
    have es : s = 64 := by omega
    subst es
    rw [wX_placesOf_5]
    dsimp only
    exact br_t (nI_le (a := 64) (Nat.le_refl _) (by omega)) ⟨n + 1, om_p99 I hb hK n 0 (by omega) (n + 1) (by omega)⟩
  | succ d ih =>
    intro s hs F hF
    obtain ⟨F, rfl⟩ : ∃ G, F = G + 1 := ⟨F - 1, by omega⟩
    have c1 : (nI s).toNatClampNeg = s := nI_clamp (by omega)
    have vs : vp_in (nI s) 64 := vp_in_nI (by omega) (by omega)
    have H := ih (s + 1) (by omega) F (by omega)
    rw [wX_placesOf_5]
    dsimp only
    rw [c1]
    refine br_f (nI_ge (b := 64) (by omega) (by decide)) ⟨vs, br_c (fun z => ?_) (fun z => ?_)⟩
    · have hp := om_posO (by omega) I (show s < 64 by omega) hb z
      have T := om_slot I hb (by omega)
      rw [hp] at T
      obtain ⟨a0, ha0, ea⟩ := T.2.2.2
      rw [om_i1 (show pos b < s + 1 by omega)] at H
      rw [om_i0 (show ¬ pos b < s by omega)]
      have H2 : wX_placesOf_5 post (nI b) (nI (L b)) (nI n) fm fr fk ft ow ce tg ve so sc st mo mc mt no nc nt wl sn sr F (nI 0 + 1) (nI (s + 1)) := by
        rw [nI_1]
        exact H
      exact ⟨5, om_p29b (hL b hb) ha0 (by omega) ea T.2.2.1 H2 a0 0 (by omega) 5 (by omega)⟩
    · have hp : pos b ≠ s := by
        intro e
        have T := (om_slot I hb (by omega)).1
        rw [e] at T
        exact z T
      have ei : om_i (pos b) (s + 1) = om_i (pos b) s := by
        by_cases h : pos b < s
        · rw [om_i1 h, om_i1 (by omega)]
        · rw [om_i0 h, om_i0 (by omega)]
      rw [ei] at H
      exact nm_r (nI_1 s) H
theorem om_plc (hM : om_M V L fk n ow ce tg ve so sc st) (hL : ∀ b, b < 16 → L b < 8) (hb : b < 16) (hK : post 1) :
    wpX_placesOf post (nI n, fm, fr, fk, ft, ow, ce, tg, ve, so, sc, st, mo, mc, mt, no, nc, nt, wl, sn, sr) (nI b) (nI (L b)) := by
  obtain ⟨pos, I⟩ := hM
  have h4 : ¬ pos b < 4 := by
    intro z
    have T := om_slot I hb (by omega)
    obtain ⟨a0, ha0, ea⟩ := T.2.2.2
    have R := om_bkR (L b) (hL b hb) a0 ha0
    omega
  have H := om_p5 (fm := fm) (fr := fr) (fk := fk) (ft := ft) (ce := ce) (ve := ve) (mo := mo) (mc := mc) (mt := mt) (no := no) (nc := nc) (nt := nt) (wl := wl) (sn := sn) (sr := sr) I hL hb hK 60 4 (by omega) 61 (by omega)
  rw [om_i0 h4] at H
  unfold wpX_placesOf
  dsimp only
  exact ⟨61, H⟩
end
theorem om_au {post : Int32 → SX → Prop} {V sn0 sr0 : Nat → Int32} {t0 : Int32} (hK : ∀ u' : SX, om_X V sn0 sr0 t0 u' → post 0 u') : ∀ d b, b + d = 16 → ∀ (fs fm fr fk ft : Int32) (ow ce tg ve so sc st mo mc mt no nc nt wl sn sr : Nat → Int32), om_X V sn0 sr0 t0 (fs, fm, fr, fk, ft, ow, ce, tg, ve, so, sc, st, mo, mc, mt, no, nc, nt, wl, sn, sr) → ∀ F, d < F →
    wX_audit_4 post F 0 (nI b) fs fm fr fk ft ow ce tg ve so sc st mo mc mt no nc nt wl sn sr := by
  intro d
  induction d with
  | zero =>
    intro b hb fs fm fr fk ft ow ce tg ve so sc st mo mc mt no nc nt wl sn sr hX F hF
    obtain ⟨F, rfl⟩ : ∃ G, F = G + 1 := ⟨F - 1, by omega⟩
    rw [wX_audit_4]
    dsimp only
    exact br_t (nI_le (a := 16) (by omega) (by omega)) (hK _ hX)
  | succ d ih =>
    intro b hb fs fm fr fk ft ow ce tg ve so sc st mo mc mt no nc nt wl sn sr hX F hF
    obtain ⟨F, rfl⟩ : ∃ G, F = G + 1 := ⟨F - 1, by omega⟩
    obtain ⟨L, n, m, rfl, rfl, hL, hM, hW, e⟩ := hX
    rw [wX_audit_4]
    dsimp only
    refine br_f (nI_ge (b := 16) (by omega) (by decide)) (om_leaf (L' := L) (by omega) hW (Or.inl ⟨rfl, rfl⟩) ?_)
    intro m' fr' mo' mc' mt' no' nc' nt' wl' hW'
    refine om_plc hM hL (by omega) (br_t rfl (nm_r (nI_1 b) ?_))
    exact ih (b + 1) (by omega) (nI n) (nI m') fr' fk ft ow ce tg ve so sc st mo' mc' mt' no' nc' nt' wl' sn sr ⟨L, n, m', rfl, rfl, hL, hM, hW', e⟩ F (by omega)
theorem i_vc_audit {k : Nat} {u : SX} {v : SY} (I : i_Rel k u v) (hk : k + 5 ≤ 2561) : wpX_audit (fun r u' => wpY_audit (fun r' => r' = r ∧ i_Rel (k + 5) u' v) v) u := by
  obtain ⟨fu, bl, ol, sa⟩ := v
  obtain ⟨sr0, t0, hX, ht⟩ := I
  obtain ⟨fs, fm, fr, fk, ft, ow, ce, tg, ve, so, sc, st, mo, mc, mt, no, nc, nt, wl, sn, sr⟩ := u
  unfold wpX_audit
  dsimp only
  refine ⟨17, om_au ?_ 16 0 (by omega) fs fm fr fk ft ow ce tg ve so sc st mo mc mt no nc nt wl sn sr hX 17 (by omega)⟩
  intro u' hX'
  unfold wpY_audit
  exact ⟨rfl, sr0, t0, hX', ht⟩
end
section
/-! the constructor -/
theorem om_all {N S Z : Nat} {PT : Nat → Nat → Prop} {ow ce tg so sc st V : Nat → Int32} {L : Nat → Nat} (ho : ∀ s, s < S → ow s = -1)
    (h : ∀ b, b < N → so b = nI b ∧ sc b = V b ∧ st b = nI (L b)) : om_In N S Z PT ow ce tg N so sc st V L (fun b => S + b) := by
  refine ⟨Nat.le_refl N, ?_, ?_, ?_⟩
  · intro b hb
    exact Or.inr ⟨b, hb, rfl, h b hb⟩
  · intro s hs
    exact Or.inl (ho s hs)
  · intro i hi
    exact ⟨i, hi, (h i hi).1, rfl⟩
section
variable {post : SX → Prop} {fs fr fk ft : Int32} {ow ce tg ve so sc st : Nat → Int32} {wl sn sr : Nat → Int32} {L : Nat → Nat}
theorem om_i336 : ∀ d l, l + d = 4 → ∀ (m : Nat) (mo mc mt no nc nt : Nat → Int32), om_W L m mo mc mt no nc nt wl →
    (∀ (m' : Nat) (mo' mc' mt' no' nc' nt' : Nat → Int32), om_W L m' mo' mc' mt' no' nc' nt' wl → post (fs, nI m', fr, fk, 0, ow, ce, tg, ve, so, sc, st, mo', mc', mt', no', nc', nt', wl, sn, sr)) →
    ∀ F, d < F → wX_init_336 post F (nI l) fs (nI m) fr fk ft ow ce tg ve so sc st mo mc mt no nc nt wl sn sr := by
  intro d
  induction d with
  | zero =>
    intro l hl m mo mc mt no nc nt hW hK F hF
    obtain ⟨F, rfl⟩ : ∃ G, F = G + 1 := ⟨F - 1, by omega⟩
    rw [wX_init_336]
    dsimp only
    exact br_t (nI_le (a := 4) (by omega) (by omega)) (hK m mo mc mt no nc nt hW)
  | succ d ih =>
    intro l hl m mo mc mt no nc nt hW hK F hF
    obtain ⟨F, rfl⟩ : ∃ G, F = G + 1 := ⟨F - 1, by omega⟩
    obtain ⟨W, K, hN, hwl, hfl⟩ := hW
    rw [wX_init_336]
    dsimp only
    refine br_f (nI_ge (b := 4) (by omega) (by decide)) (om_mrp (by omega) hN ?_)
    intro m' mo' no' nc' nt' hN' hE'
    refine om_mwp (by omega) (fun w hw => (hwl w hw).1) hN' hE' ?_
    intro m2 mo2 mc2 mt2 no2 nc2 nt2 hN2
    exact nm_r (nI_1 l) (ih (l + 1) (by omega) m2 mo2 mc2 mt2 no2 nc2 nt2 ⟨W, K, hN2, hwl, hfl⟩ hK F (by omega))
end
section
variable {post : SX → Prop} {fm fk : Int32} {mo mc mt no nc nt wl sn sr : Nat → Int32} {V : Nat → Int32} {L : Nat → Nat}
theorem om_i312 (hL : ∀ b, b < 16 → L b < 8) (hK : ∀ (n' t' : Nat) (fr' : Int32) (ow' ce' tg' ve' so' sc' st' : Nat → Int32), om_M V L fk n' ow' ce' tg' ve' so' sc' st' →
      ∃ G, wX_init_336 post G 0 (nI n') fm fr' fk (nI t') ow' ce' tg' ve' so' sc' st' mo mc mt no nc nt wl sn sr) :
    ∀ d l, l + d = 8 → ∀ (n t : Nat) (fr : Int32) (ow ce tg ve so sc st : Nat → Int32), om_M V L fk n ow ce tg ve so sc st →
    ∀ F, d < F → wX_init_312 post F (nI l) (nI n) fm fr fk (nI t) ow ce tg ve so sc st mo mc mt no nc nt wl sn sr := by
  intro d
  induction d with
  | zero =>
    intro l hl n t fr ow ce tg ve so sc st hM F hF
    obtain ⟨F, rfl⟩ : ∃ G, F = G + 1 := ⟨F - 1, by omega⟩
    rw [wX_init_312]
    dsimp only
    exact br_t (nI_le (a := 8) (by omega) (by omega)) (hK n t fr ow ce tg ve so sc st hM)
  | succ d ih =>
    intro l hl n t fr ow ce tg ve so sc st hM F hF
    obtain ⟨F, rfl⟩ : ∃ G, F = G + 1 := ⟨F - 1, by omega⟩
    rw [wX_init_312]
    dsimp only
    refine br_f (nI_ge (b := 8) (by omega) (by decide)) (om_rp (by omega) hM ?_)
    intro n' ow' so' sc' st' hM' hE'
    refine om_wp (by omega) hL hM' hE' ?_
    intro n2 fr2 ow2 ce2 tg2 ve2 so2 sc2 st2 hM2
    exact nm_r (nI_1 l) (ih (l + 1) (by omega) n2 (t + 4) fr2 ow2 ce2 tg2 ve2 so2 sc2 st2 hM2 F (by omega))
end
section
variable {post : SX → Prop} {fs fm fk ft : Int32} {ow ce tg ve so sc st mo mc mt : Nat → Int32} {sn sr : Nat → Int32}
theorem om_i251 (hK : ∀ (fr' : Int32) (no' nc' nt' wl' : Nat → Int32), (∀ w, w < 4 → ∃ q, q < 4 ∧ wl' w = nI q ∧ nt' w = nI q ∧ no' w = nI w ∧ nc' w = sr w) →
      ∃ G, wX_init_312 post G 0 fs 4 fr' fk ft ow ce tg ve so sc st mo mc mt no' nc' nt' wl' sn sr) :
    ∀ d w, w + d = 4 → ∀ (fr : Int32) (no nc nt wl : Nat → Int32), (∀ v, v < w → ∃ q, q < 4 ∧ wl v = nI q ∧ nt v = nI q ∧ no v = nI v ∧ nc v = sr v) →
    ∀ F, d < F → wX_init_251 post F (nI w) fs fm fr fk ft ow ce tg ve so sc st mo mc mt no nc nt wl sn sr := by
  intro d
  induction d with
  | zero =>
    intro w hw fr no nc nt wl hI F hF
    obtain ⟨F, rfl⟩ : ∃ G, F = G + 1 := ⟨F - 1, by omega⟩
    have ew : w = 4 := by omega
    subst ew
    rw [wX_init_251]
    dsimp only
    exact br_t (nI_le (a := 4) (Nat.le_refl _) (by omega)) (hK fr no nc nt wl hI)
  | succ d ih =>
    intro w hw fr no nc nt wl hI F hF
    obtain ⟨F, rfl⟩ : ∃ G, F = G + 1 := ⟨F - 1, by omega⟩
    have c1 : (nI w).toNatClampNeg = w := nI_clamp (by omega)
    have v4 : vp_in (nI w) 4 := vp_in_nI (by omega) (by omega)
    have v16 : vp_in (nI w) 16 := vp_in_nI (by omega) (by omega)
    rw [wX_init_251]
    dsimp only
    rw [c1]
    refine br_f (nI_ge (b := 4) (by omega) (by decide)) (om_next (fun r fr' => ?_))
    obtain ⟨q, hq, er⟩ := pk_andE r (m := 3) 2 (by decide)
    refine And.intro v4 (nm_e ⟨v4, nm_e ⟨v16, v4, nm_e ⟨v4, v4, nm_e (nm_r (nI_1 w) ?_)⟩⟩⟩)
    refine ih (w + 1) (by omega) fr' _ _ _ _ ?_ F (by omega)
    intro v hv
    by_cases e : v = w
    · subst e
      exact ⟨q, hq, by rw [pk_us]; exact er, by rw [pk_us, pk_us]; exact er, pk_us, pk_us⟩
    · rw [pk_un e, pk_un e, pk_un e, pk_un e]
      exact hI v (by omega)
end
section
variable {post : SX → Prop} {fm fk ft : Int32} {ow ce tg ve sc : Nat → Int32} {mo mc mt no nc nt wl sn : Nat → Int32}
theorem om_i185 {fs : Int32} (hK : ∀ (fr' : Int32) (so' st' sr' : Nat → Int32), (∀ b, b < 16 → ∃ x, x < 8 ∧ st' b = nI x ∧ so' b = nI b ∧ om_fl (sr' (b / 4)) (b % 4) = nI x) →
      ∃ G, wX_init_251 post G 0 16 fm fr' fk ft ow ce tg ve so' sc st' mo mc mt no nc nt wl sn sr') :
    ∀ d b, b + d = 16 → ∀ (fr : Int32) (so st sr : Nat → Int32), (∀ c, c < b → ∃ x, x < 8 ∧ st c = nI x ∧ so c = nI c ∧ om_fl (sr (c / 4)) (c % 4) = nI x) →
    (∀ c, b ≤ c → c < 16 → om_fl (sr (c / 4)) (c % 4) = 0) →
    ∀ F, d < F → wX_init_185 post F (nI b) fs fm fr fk ft ow ce tg ve so sc st mo mc mt no nc nt wl sn sr := by
  intro d
  induction d with
  | zero =>
    intro b hb fr so st sr hI hZ F hF
    obtain ⟨F, rfl⟩ : ∃ G, F = G + 1 := ⟨F - 1, by omega⟩
    have eb : b = 16 := by omega
    subst eb
    rw [wX_init_185]
    dsimp only
    exact br_t (nI_le (a := 16) (Nat.le_refl _) (by omega)) (hK fr so st sr hI)
  | succ d ih =>
    intro b hb fr so st sr hI hZ F hF
    obtain ⟨F, rfl⟩ : ∃ G, F = G + 1 := ⟨F - 1, by omega⟩
    have c1 : (nI b).toNatClampNeg = b := nI_clamp (by omega)
    have c2 : (nI (b / 4)).toNatClampNeg = b / 4 := nI_clamp (by omega)
    have vb : vp_in (nI b) 16 := vp_in_nI (by omega) (by omega)
    have vw : vp_in (nI (b / 4)) 16 := vp_in_nI (by omega) (by omega)
    have e1 : nI b >>> ((2 : Int32) &&& 31) = nI (b / 4) := pk_shrN (by omega) _ 2 (by decide)
    have e2 := om_m3 b (by omega)
    rw [wX_init_185]
    dsimp only
    rw [e1, e2, c1, c2]
    refine br_f (nI_ge (b := 16) (by omega) (by decide)) (om_next (fun r fr' => ?_))
    obtain ⟨x, hx, er⟩ := pk_andE r (m := 7) 3 (by decide)
    refine nm_r er ?_
    refine And.intro vb (nm_e ⟨vb, nm_e ⟨vw, vw, nm_e (nm_r (nI_1 b) ?_)⟩⟩)
    have hx8 : x < 8 := hx
    refine ih (b + 1) (by omega) fr' (upd so b (nI b)) (upd st b (nI x)) (upd sr (b / 4) (om_po (sr (b / 4)) (b % 4) (nI x))) ?_ ?_ F (by omega)
    · intro c hc
      by_cases e : c = b
      · subst e
        refine ⟨x, hx, pk_us, pk_us, ?_⟩
        rw [pk_us]
        exact om_flP _ (by omega) hx8 (hZ c (Nat.le_refl c) (by omega))
      · obtain ⟨y, hy, h1, h2, h3⟩ := hI c (by omega)
        refine ⟨y, hy, ?_, ?_, ?_⟩
        · rw [pk_un e]; exact h1
        · rw [pk_un e]; exact h2
        · by_cases e4 : c / 4 = b / 4
          · rw [e4, pk_us, om_flQ _ (by omega) (by omega) hx8 (by omega), ← e4]
            exact h3
          · rw [pk_un e4]
            exact h3
    · intro c hc1 hc2
      by_cases e4 : c / 4 = b / 4
      · rw [e4, pk_us, om_flQ _ (by omega) (by omega) hx8 (by omega), ← e4]
        exact hZ c (by omega) hc2
      · rw [pk_un e4]
        exact hZ c (by omega) hc2
end
section
variable {post : SX → Prop} {fs fm fr fk ft : Int32} {ce tg ve so sc st mc mt no nc nt wl sn sr : Nat → Int32}
theorem om_i164 {ow : Nat → Int32} (hK : ∀ mo' : Nat → Int32, (∀ s, s < 16 → mo' s = -1) → ∃ G, wX_init_185 post G 0 fs fm fr fk ft ow ce tg ve so sc st mo' mc mt no nc nt wl sn sr) :
    ∀ d s, s + d = 16 → ∀ mo : Nat → Int32, (∀ q, q < s → mo q = -1) → ∀ F, d < F → wX_init_164 post fs fm fr fk ft F (nI s) ow ce tg ve so sc st mo mc mt no nc nt wl sn sr := by
  intro d
  induction d with
  | zero =>
    intro s hs mo hI F hF
    obtain ⟨F, rfl⟩ : ∃ G, F = G + 1 := ⟨F - 1, by omega⟩
    have es : s = 16 := by omega
    subst es
    rw [wX_init_164]
    dsimp only
    exact br_t (nI_le (a := 16) (Nat.le_refl _) (by omega)) (hK mo hI)
  | succ d ih =>
    intro s hs mo hI F hF
    obtain ⟨F, rfl⟩ : ∃ G, F = G + 1 := ⟨F - 1, by omega⟩
    have c1 : (nI s).toNatClampNeg = s := nI_clamp (by omega)
    rw [wX_init_164]
    dsimp only
    rw [c1]
    refine br_f (nI_ge (b := 16) (by omega) (by decide)) ⟨vp_in_nI (by omega) (by omega), nm_e (nm_r (nI_1 s) (ih (s + 1) (by omega) _ ?_ F (by omega)))⟩
    intro q hq
    by_cases e : q = s
    · rw [e, pk_us]
    · rw [pk_un e]; exact hI q (by omega)
theorem om_i143 {mo : Nat → Int32} (hK : ∀ ow' : Nat → Int32, (∀ s, s < 64 → ow' s = -1) → ∃ G, wX_init_164 post fs fm fr fk ft G 0 ow' ce tg ve so sc st mo mc mt no nc nt wl sn sr) :
    ∀ d s, s + d = 64 → ∀ ow : Nat → Int32, (∀ q, q < s → ow q = -1) → ∀ F, d < F → wX_init_143 post fs fm fr fk ft F (nI s) ow ce tg ve so sc st mo mc mt no nc nt wl sn sr := by
  intro d
  induction d with
  | zero =>
    intro s hs ow hI F hF
    obtain ⟨F, rfl⟩ : ∃ G, F = G + 1 := ⟨F - 1, by omega⟩
    have es : s = 64 := by omega
    subst es
    rw [wX_init_143]
    dsimp only
    exact br_t (nI_le (a := 64) (Nat.le_refl _) (by omega)) (hK ow hI)
  | succ d ih =>
    intro s hs ow hI F hF
    obtain ⟨F, rfl⟩ : ∃ G, F = G + 1 := ⟨F - 1, by omega⟩
    have c1 : (nI s).toNatClampNeg = s := nI_clamp (by omega)
    rw [wX_init_143]
    dsimp only
    rw [c1]
    refine br_f (nI_ge (b := 64) (by omega) (by decide)) ⟨vp_in_nI (by omega) (by omega), nm_e (nm_r (nI_1 s) (ih (s + 1) (by omega) _ ?_ F (by omega)))⟩
    intro q hq
    by_cases e : q = s
    · rw [e, pk_us]
    · rw [pk_un e]; exact hI q (by omega)
end
theorem om_fl0 : ∀ j, j < 4 → om_fl 0 j = 0 := by decide +kernel
/-- from the generator's first state on -/
theorem om_ini {post : SX → Prop} (fr fk : Int32) (hK : ∀ u : SX, (∃ sr0, om_X (fun _ => 0) (fun _ => 0) sr0 0 u) → post u) :
    ∃ G, wX_init_143 post 0 0 fr fk 0 G 0 (fun _ => 0) (fun _ => 0) (fun _ => 0) (fun _ => 0) (fun _ => 0) (fun _ => 0) (fun _ => 0) (fun _ => 0) (fun _ => 0) (fun _ => 0) (fun _ => 0) (fun _ => 0) (fun _ => 0) (fun _ => 0) (fun _ => 0) (fun _ => 0) := by
  refine ⟨65, om_i143 ?_ 64 0 (by omega) (fun _ => 0) (fun q hq => absurd hq (Nat.not_lt_zero q)) 65 (by omega)⟩
  intro ow how
  refine ⟨17, om_i164 ?_ 16 0 (by omega) (fun _ => 0) (fun q hq => absurd hq (Nat.not_lt_zero q)) 17 (by omega)⟩
  intro mo hmo
  refine ⟨17, om_i185 ?_ 16 0 (by omega) fr (fun _ => 0) (fun _ => 0) (fun _ => 0) (fun q hq => absurd hq (Nat.not_lt_zero q)) (fun c _ _ => om_fl0 _ (by omega)) 17 (by omega)⟩
  intro fr1 so st sr hS
  refine ⟨5, om_i251 ?_ 4 0 (by omega) fr1 (fun _ => 0) (fun _ => 0) (fun _ => 0) (fun _ => 0) (fun q hq => absurd hq (Nat.not_lt_zero q)) 5 (by omega)⟩
  intro fr2 no nc nt wl hT
  have hL : ∀ b, b < 16 → (st b).toNatClampNeg < 8 := by
    intro b hb
    obtain ⟨x, hx, e, _⟩ := hS b hb
    rw [e, nI_clamp (by omega)]
    exact hx
  have hM : om_M (fun _ => 0) (fun b => (st b).toNatClampNeg) fk 16 ow (fun _ => 0) (fun _ => 0) (fun _ => 0) so (fun _ => 0) st := by
    refine ⟨_, om_all how ?_⟩
    intro b hb
    obtain ⟨x, hx, e1, e2, _⟩ := hS b hb
    refine ⟨e2, rfl, ?_⟩
    rw [e1, nI_clamp (by omega)]
  have hW : om_W (fun b => (st b).toNatClampNeg) 4 mo (fun _ => 0) (fun _ => 0) no nc nt wl := by
    refine ⟨sr, fun w => (wl w).toNatClampNeg, ⟨_, om_all hmo ?_⟩, ?_, ?_⟩
    · intro w hw
      obtain ⟨q, hq, e1, e2, e3, e4⟩ := hT w hw
      refine ⟨e3, e4, ?_⟩
      rw [e1, e2, nI_clamp (by omega)]
    · intro w hw
      obtain ⟨q, hq, e1, e2, e3, e4⟩ := hT w hw
      dsimp only
      rw [e1, nI_clamp (by omega)]
      exact ⟨hq, rfl⟩
    · intro b hb
      obtain ⟨x, hx, e1, e2, e3⟩ := hS b hb
      dsimp only
      rw [e1, nI_clamp (by omega)]
      exact e3
  refine ⟨9, om_i312 (V := fun _ => 0) (L := fun b => (st b).toNatClampNeg) hL ?_ 8 0 (by omega) 16 0 fr2 ow (fun _ => 0) (fun _ => 0) (fun _ => 0) so (fun _ => 0) st hM 9 (by omega)⟩
  intro n3 t3 fr3 ow3 ce3 tg3 ve3 so3 sc3 st3 hM3
  refine ⟨5, om_i336 (L := fun b => (st b).toNatClampNeg) 4 0 (by omega) 4 mo (fun _ => 0) (fun _ => 0) no nc nt hW ?_ 5 (by omega)⟩
  intro m4 mo4 mc4 mt4 no4 nc4 nt4 hW4
  exact hK _ ⟨sr, _, n3, m4, rfl, rfl, hL, hM3, hW4, rfl, rfl, rfl⟩
theorem i_vc0 (k0 : Int32) : wpX_init (fun u => wpY_init (fun v => i_Rel 1 u v) k0) k0 := by
  unfold wpX_init wpY_init wpX_stir
  dsimp only
  have H : ∀ fr0 : Int32, wpX_next (fun r u => match u with
      | (fs, fm, fr, fk, ft, ow, ce, tg, ve, so, sc, st, mo, mc, mt, no, nc, nt, wl, sn, sr) => ∃ G, wX_init_143 (fun u => i_Rel 1 u (0, (fun _ => 0), (fun _ => 0), (fun _ => 0))) fs fm fr r ft G 0 ow ce tg ve so sc st mo mc mt no nc nt wl sn sr)
      (0, 0, fr0, 0, 0, (fun _ => 0), (fun _ => 0), (fun _ => 0), (fun _ => 0), (fun _ => 0), (fun _ => 0), (fun _ => 0), (fun _ => 0), (fun _ => 0), (fun _ => 0), (fun _ => 0), (fun _ => 0), (fun _ => 0), (fun _ => 0), (fun _ => 0), (fun _ => 0)) := by
    intro fr0
    refine om_next (fun r fr' => ?_)
    refine om_ini fr' r ?_
    intro u hu
    obtain ⟨sr0, hX⟩ := hu
    exact ⟨sr0, 0, hX, Or.inl ⟨rfl, rfl⟩⟩
  exact br_c (fun _ => H _) (fun _ => H _)
end
section
/-! touched -/
theorem i_vc_touched {k : Nat} {u : SX} {v : SY} (I : i_Rel k u v) (hk : k + 5 ≤ 2561) : wpX_touched (fun r => wpY_touched (fun r' => r' = r ∧ i_Rel (k + 5) u v) v) u := by
  obtain ⟨fu, bl, ol, sa⟩ := v
  have I0 := i_up I
  obtain ⟨sr0, t0, hX, ht⟩ := I
  obtain ⟨fs, fm, fr, fk, ft, ow, ce, tg, ve, so, sc, st, mo, mc, mt, no, nc, nt, wl, sn, sr⟩ := u
  obtain ⟨_, _, et⟩ := om_Xr hX
  unfold wpX_touched wpY_touched
  dsimp only
  rcases ht with ⟨e1, e2⟩ | ⟨e1, e2⟩
  · exact br_t e1 ⟨(et.trans e2).symm, I0⟩
  · have h1 : ¬ fu = 0 := by rw [e1]; exact om_10
    exact br_f h1 ⟨(et.trans e2).symm, I0⟩
end
