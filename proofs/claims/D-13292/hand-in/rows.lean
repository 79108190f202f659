section
/-! ===== the two views of one picture: words turned (fl), numbers raised by ad, times by la ===== -/
/-- a word as the view shows it -/
def la_w (fl : Bool) (x : Nat) : Nat := if fl = true then 23 - x else x
/-- an item as the view shows it -/
def la_I (fl : Bool) (ad x : Nat) : Nat := if x < 24 then la_w fl x else x + ad
/-- an item of a shape (numbers are blanks) as the view shows it -/
def la_S (fl : Bool) (x : Nat) : Nat := if x < 24 then la_w fl x else x
/-- a part of the pattern as the view shows it -/
def la_P (fl : Bool) (ad x : Nat) : Nat := if x < 2000 then la_I fl ad x else if x < 3000 then x else x + ad
def la_bl (x : Nat) : Nat := if 1000 ≤ x ∧ x < 2000 then 1000 else x
def la_it (x : Nat) : Prop := x < 24 ∨ (1000 ≤ x ∧ x ≤ 1910)
def la_pa (x : Nat) : Prop := la_it x ∨ (2000 ≤ x ∧ x ≤ 2002) ∨ (3000 ≤ x ∧ x ≤ 3007)
theorem la_w_lt {fl : Bool} {x : Nat} (h : x < 24) : la_w fl x < 24 := by
  unfold la_w; split <;> omega
theorem la_w_w {fl : Bool} {x : Nat} (h : x < 24) : la_w fl (la_w fl x) = x := by
  unfold la_w; split <;> omega
theorem la_w_inj {fl : Bool} {x y : Nat} (hx : x < 24) (hy : y < 24) (h : la_w fl x = la_w fl y) : x = y := by
  rw [← la_w_w (fl := fl) hx, ← la_w_w (fl := fl) hy, h]
theorem la_I_w {fl : Bool} {ad x : Nat} (h : x < 24) : la_I fl ad x = la_w fl x := if_pos h
theorem la_I_n {fl : Bool} {ad x : Nat} (h : 24 ≤ x) : la_I fl ad x = x + ad := if_neg (by omega)
theorem la_S_w {fl : Bool} {x : Nat} (h : x < 24) : la_S fl x = la_w fl x := if_pos h
theorem la_S_n {fl : Bool} {x : Nat} (h : 24 ≤ x) : la_S fl x = x := if_neg (by omega)
theorem la_I_0 (x : Nat) : la_I false 0 x = x := by
  unfold la_I la_w; split <;> simp
theorem la_P_0 (x : Nat) : la_P false 0 x = x := by
  unfold la_P; rw [la_I_0]; split
  · rfl
  · split <;> rfl
theorem la_I_inj {fl : Bool} {ad x y : Nat} (hx : la_it x) (hy : la_it y) (h : la_I fl ad x = la_I fl ad y) : x = y := by
  rcases Nat.lt_or_ge x 24 with a | a
  · rcases Nat.lt_or_ge y 24 with b | b
    · rw [la_I_w a, la_I_w b] at h
      exact la_w_inj a b h
    · rw [la_I_w a, la_I_n b] at h
      have := la_w_lt (fl := fl) a
      unfold la_it at hy
      omega
  · rcases Nat.lt_or_ge y 24 with b | b
    · rw [la_I_n a, la_I_w b] at h
      have := la_w_lt (fl := fl) b
      unfold la_it at hx
      omega
    · rw [la_I_n a, la_I_n b] at h
      omega
/-- an item of a shape -/
def la_si (x : Nat) : Prop := x < 24 ∨ x = 1000
theorem la_S_ok {fl : Bool} {x : Nat} (h : la_si x) : la_si (la_S fl x) := by
  rcases h with h | h
  · rw [la_S_w h]
    exact Or.inl (la_w_lt h)
  · rw [la_S_n (by omega)]
    exact Or.inr h
theorem la_si_lt {x : Nat} (h : la_si x) : x < 2 ^ 31 := by
  unfold la_si at h; omega
theorem la_S_inj {fl : Bool} {x y : Nat} (hx : la_si x) (hy : la_si y) : la_S fl x = la_S fl y ↔ x = y := by
  constructor
  · intro h
    rcases hx with a | a
    · rcases hy with b | b
      · rw [la_S_w a, la_S_w b] at h
        exact la_w_inj a b h
      · rw [la_S_w a, la_S_n (by omega)] at h
        have := la_w_lt (fl := fl) a
        omega
    · rcases hy with b | b
      · rw [la_S_n (by omega), la_S_w b] at h
        have := la_w_lt (fl := fl) b
        omega
      · omega
  · intro h
    rw [h]
theorem la_S_1000 {fl : Bool} {x : Nat} (hx : la_si x) : la_S fl x = 1000 ↔ x = 1000 := by
  have h := la_S_inj (fl := fl) hx (y := 1000) (Or.inr rfl)
  rw [la_S_n (x := 1000) (by omega)] at h
  exact h
theorem la_bl_si {x : Nat} (h : la_it x) : la_si (la_bl x) := by
  unfold la_bl la_si
  unfold la_it at h
  split <;> omega
theorem la_I_ok {fl : Bool} {ad x : Nat} (ha : ad ≤ 63) (h : la_it x) : la_I fl ad x < 24 ∨ (1000 ≤ la_I fl ad x ∧ la_I fl ad x < 2000) := by
  rcases h with h | h
  · rw [la_I_w h]
    exact Or.inl (la_w_lt h)
  · rw [la_I_n (by omega)]
    omega
theorem la_I_lt {fl : Bool} {ad x : Nat} (ha : ad ≤ 63) (h : la_it x) : la_I fl ad x < 2000 := by
  have := la_I_ok (fl := fl) ha h
  omega
theorem la_bl_I {fl : Bool} {ad x : Nat} (ha : ad ≤ 63) (h : la_it x) : la_bl (la_I fl ad x) = la_S fl (la_bl x) := by
  rcases h with h | h
  · have := la_w_lt (fl := fl) h
    unfold la_bl
    rw [la_I_w h, if_neg (by omega), if_neg (by omega), la_S_w h]
  · unfold la_bl
    rw [la_I_n (by omega), if_pos (by omega), if_pos (by omega), la_S_n (by omega)]
theorem la_bl_n {x : Nat} (h : la_it x) : la_bl x = 1000 ↔ 24 ≤ x := by
  unfold la_bl
  unfold la_it at h
  split <;> omega
/-! ===== the small static methods ===== -/
theorem la_isNum {post : Int32 → Prop} (x : Nat) (hx : x < 2 ^ 31) (h1 : 1000 ≤ x → x < 2000 → post 1) (h0 : ¬ (1000 ≤ x ∧ x < 2000) → post 0) : wpX_isNumber post () (nI x) :=
  pk_lt x 1000 (fun z => h0 (by omega)) (fun z => pk_le 2000 x (fun z2 => h0 (by omega)) (fun z2 => h1 z z2))
theorem la_isItem {post : Int32 → Prop} (x : Nat) (h : x < 24 ∨ (1000 ≤ x ∧ x < 2000)) (p : post 1) : wpX_isItem post () (nI x) := by
  unfold wpX_isItem
  refine br_f (nI_pos (by omega)) (pk_lt x 24 (fun _ => p) (fun z => ?_))
  unfold wX_isItem_10
  exact la_isNum x (by omega) (fun _ _ => br_f (by decide) p) (fun h0 => absurd (h.resolve_left (by omega)) h0)
theorem la_isItem0 {post : Int32 → Prop} (x : Nat) (hx : x < 2 ^ 31) (h : 2000 ≤ x) (p : post 0) : wpX_isItem post () (nI x) := by
  unfold wpX_isItem
  refine br_f (nI_pos (by omega)) (pk_lt x 24 (fun z => absurd z (by omega)) (fun z => ?_))
  unfold wX_isItem_10
  exact la_isNum x (by omega) (fun _ z => absurd z (by omega)) (fun h0 => br_t (by decide) p)
theorem la_isPart {post : Int32 → Prop} (x : Nat) (h : x < 24 ∨ (1000 ≤ x ∧ x < 2000) ∨ (2000 ≤ x ∧ x ≤ 2002) ∨ (3000 ≤ x ∧ x < 4000)) (p : post 1) : wpX_isPart post () (nI x) := by
  unfold wpX_isPart
  rcases Nat.lt_or_ge x 2000 with a | a
  · exact la_isItem x (by omega) (br_f (by decide) p)
  · refine la_isItem0 x (by omega) a (br_t (by decide) ?_)
    refine pk_lt x 2000 (fun z => absurd z (by omega)) (fun _ => pk_le x 2002 (fun _ => p) (fun z => ?_))
    unfold wX_isPart_21
    exact pk_lt x 3000 (fun z => absurd z (by omega)) (fun _ => pk_le 4000 x (fun z => absurd z (by omega)) (fun _ => p))
theorem la_blk {post : Int32 → Prop} (x : Nat) (hx : x < 2 ^ 31) (p : post (nI (la_bl x))) : wpX_blanked post () (nI x) := by
  unfold wpX_blanked
  refine la_isNum x hx (fun a b => br_f (by decide) ?_) (fun a => br_t (by decide) ?_)
  · unfold la_bl at p
    rw [if_pos ⟨a, b⟩] at p
    exact p
  · unfold la_bl at p
    rw [if_neg a] at p
    exact p
/-- what the part takes, in the base picture -/
def la_tk (p x : Nat) : Prop := p = 2000 ∨ (p < 2000 ∧ p = x) ∨ (2000 < p ∧ 1000 ≤ x ∧ (p = 2001 ∨ p < x + 2000))
theorem la_P_lo {fl : Bool} {ad p : Nat} (h : p < 2000) : la_P fl ad p = la_I fl ad p := if_pos h
theorem la_P_mid {fl : Bool} {ad p : Nat} (h : 2000 ≤ p) (h2 : p < 3000) : la_P fl ad p = p := by
  unfold la_P
  rw [if_neg (by omega), if_pos h2]
theorem la_P_hi {fl : Bool} {ad p : Nat} (h : 3000 ≤ p) : la_P fl ad p = p + ad := by
  unfold la_P
  rw [if_neg (by omega), if_neg (by omega)]
theorem la_P_lt {fl : Bool} {ad p : Nat} (ha : ad ≤ 63) (h : la_pa p) : la_P fl ad p < 4000 := by
  rcases h with h | h | h
  · have := la_I_lt (fl := fl) ha h
    unfold la_it at h
    rw [la_P_lo (by omega)]
    omega
  · rw [la_P_mid (by omega) (by omega)]
    omega
  · rw [la_P_hi (by omega)]
    omega
theorem la_P_gap {fl : Bool} {ad p : Nat} (ha : ad ≤ 63) (h : la_pa p) : la_P fl ad p = 2002 ↔ p = 2002 := by
  rcases h with h | h | h
  · have := la_I_lt (fl := fl) ha h
    unfold la_it at h
    rw [la_P_lo (by omega)]
    omega
  · rw [la_P_mid (by omega) (by omega)]
  · rw [la_P_hi (by omega)]
    omega
theorem la_takes0 {post : Int32 → Prop} {fl : Bool} {ad p x : Nat} (ha : ad ≤ 63) (hp : la_pa p) (hg : ¬ p = 2002) (hx : la_it x) (h1 : la_tk p x → post 1) (h0 : ¬ la_tk p x → post 0) :
    wpX_takes post () (nI (la_P fl ad p)) (nI (la_I fl ad x)) 0 := by
  have hP := la_P_lt (fl := fl) ha hp
  have hI := la_I_lt (fl := fl) ha hx
  unfold wpX_takes
  refine pk_eq (la_P fl ad p) 2000 (fun z => ?_) (fun z => br_t rfl (pk_le 2000 (la_P fl ad p) (fun z2 => ?_) (fun z2 => ?_)))
  · refine h1 (Or.inl ?_)
    rcases Nat.lt_or_ge p 2000 with a | a
    · have := la_I_lt (fl := fl) (ad := ad) ha (x := p) (by unfold la_pa la_it at hp; unfold la_it; omega)
      rw [la_P_lo a] at z
      omega
    · rcases Nat.lt_or_ge p 3000 with b | b
      · rw [la_P_mid a b] at z
        exact z
      · rw [la_P_hi b] at z
        omega
  · have a : 2000 ≤ p := by
      rcases Nat.lt_or_ge p 2000 with a | a
      · have := la_I_lt (fl := fl) (ad := ad) ha (x := p) (by unfold la_pa la_it at hp; unfold la_it; omega)
        rw [la_P_lo a] at z2
        omega
      · exact a
    have a' : 2000 < p := by
      rcases Nat.lt_or_ge 2000 p with b | b
      · exact b
      · exfalso
        rw [la_P_mid a (by omega)] at z
        omega
    refine la_isNum _ (by omega) (fun n1 n2 => br_f (by decide) ?_) (fun n => br_t (by decide) ?_)
    · have hx1 : 1000 ≤ x := by
        rcases hx with c | c
        · have := la_w_lt (fl := fl) c
          rw [la_I_w c] at n1
          omega
        · omega
      have eI : la_I fl ad x = x + ad := la_I_n (by omega)
      refine pk_eq (la_P fl ad p) 2001 (fun y => h1 (Or.inr (Or.inr ⟨a', hx1, ?_⟩))) (fun y => ?_)
      · rcases Nat.lt_or_ge p 3000 with b | b
        · rw [la_P_mid a b] at y
          exact Or.inl y
        · rw [la_P_hi b] at y
          omega
      · have b : 3000 ≤ p := by
          rcases Nat.lt_or_ge p 3000 with b | b
          · rw [la_P_mid a b] at y
            unfold la_pa la_it at hp
            omega
          · exact b
        have eP : la_P fl ad p = p + ad := la_P_hi b
        rw [eP, eI]
        refine pk_le (x + ad - 1000) (p + ad - 3000) (fun g => h0 ?_) (fun g => h1 (Or.inr (Or.inr ⟨a', hx1, Or.inr (by omega)⟩))) (hx := pk_sub (b := 1000) (by omega)) (hy := pk_sub (b := 3000) (by omega))
        unfold la_tk
        omega
    · refine h0 (fun t => n ?_)
      rcases t with t | t | t
      · omega
      · omega
      · rw [la_I_n (by omega)]
        rw [la_I_n (by omega)] at hI
        omega
  · have a : p < 2000 := by
      rcases Nat.lt_or_ge p 2000 with a | a
      · exact a
      · rcases Nat.lt_or_ge p 3000 with b | b
        · rw [la_P_mid a b] at z2
          omega
        · rw [la_P_hi b] at z2
          omega
    have hp' : la_it p := by
      rcases hp with c | c | c
      · exact c
      · omega
      · omega
    refine pk_eq (la_P fl ad p) (la_I fl ad x) (fun g => h1 (Or.inr (Or.inl ⟨a, ?_⟩))) (fun g => h0 (fun t => ?_))
    · rw [la_P_lo a] at g
      exact la_I_inj hp' hx g
    · rcases t with t | t | t
      · omega
      · exact g (by rw [la_P_lo a, t.2])
      · omega
theorem la_takes1 {post : Int32 → Prop} {fl : Bool} {ad p : Nat} {it : Int32} (ha : ad ≤ 63) (hp : la_pa p) (h1 : 1000 ≤ p → post 1) (h0 : p < 1000 → post 0) :
    wpX_takes post () (nI (la_P fl ad p)) it 1 := by
  have hP := la_P_lt (fl := fl) ha hp
  have e : la_P fl ad p < 1000 ↔ p < 1000 := by
    rcases Nat.lt_or_ge p 24 with a | a
    · have := la_w_lt (fl := fl) a
      rw [la_P_lo (by omega), la_I_w a]
      omega
    · unfold la_pa la_it at hp
      rcases Nat.lt_or_ge p 2000 with b | b
      · rw [la_P_lo b, la_I_n a]
        omega
      · rcases Nat.lt_or_ge p 3000 with c | c
        · rw [la_P_mid b c]
        · rw [la_P_hi c]
          omega
  unfold wpX_takes
  refine pk_eq (la_P fl ad p) 2000 (fun z => h1 ?_) (fun z => br_f (by decide) (pk_lt (la_P fl ad p) 1000 (fun z2 => h0 (e.mp z2)) (fun z2 => h1 ?_)))
  · rcases Nat.lt_or_ge p 1000 with b | b
    · have := e.mpr b
      omega
    · exact b
  · rcases Nat.lt_or_ge p 1000 with b | b
    · have := e.mpr b
      omega
    · exact b
end
section
/-! ===== sets of lines: ones, lowest; ranks; times ===== -/
def la_bit (x : Int64) (k : Nat) : Nat := ((x >>> ((nI k).toInt64 &&& 63)).toInt32).toBitVec.toNat % 2
theorem la_sm : ∀ k, k < 64 → (((nI k).toInt64 &&& 63).toBitVec.smod 64).toNat = k := by decide +kernel
theorem la_tw : ∀ k, k < 64 → ((1 : Int64) <<< ((nI k).toInt64 &&& 63)).toBitVec = BitVec.twoPow 64 k := by decide +kernel
theorem la_bit0 (y : BitVec 32) : y.toNat % 2 = (y.getLsbD 0).toNat := by
  show y.toNat % 2 = (y.toNat.testBit 0).toNat
  rw [Nat.testBit_zero]
  rcases Nat.mod_two_eq_zero_or_one y.toNat with h | h <;> rw [h] <;> rfl
theorem la_bit_eq {x : Int64} {k : Nat} (hk : k < 64) : la_bit x k = (x.toBitVec.getLsbD k).toNat := by
  have e : (x >>> ((nI k).toInt64 &&& 63)).toBitVec = x.toBitVec.sshiftRight k := by
    rw [Int64.toBitVec_shiftRight]
    show x.toBitVec.sshiftRight (((nI k).toInt64 &&& 63).toBitVec.smod 64).toNat = _
    rw [la_sm k hk]
  unfold la_bit
  rw [la_bit0, Int64.toBitVec_toInt32, BitVec.getLsbD_signExtend, e, BitVec.getLsbD_sshiftRight]
  simp [hk]
theorem la_bit_or {x : Int64} {k l : Nat} (hk : k < 64) (hl : l < 64) : la_bit (x ||| ((1 : Int64) <<< ((nI l).toInt64 &&& 63))) k = if k = l then 1 else la_bit x k := by
  rw [la_bit_eq hk, la_bit_eq hk, Int64.toBitVec_or, la_tw l hl, BitVec.getLsbD_or, BitVec.getLsbD_twoPow]
  by_cases h : k = l
  · rw [if_pos h]
    simp [h, hl]
  · rw [if_neg h]
    have h' : ¬ l = k := fun z => h z.symm
    simp [h']
theorem la_bit_z {k : Nat} (hk : k < 64) : la_bit 0 k = 0 := by
  rw [la_bit_eq hk]
  show (BitVec.getLsbD 0#64 k).toNat = 0
  rw [BitVec.getLsbD_zero]
  rfl
/-- how many of the first n bits stand -/
def la_cnt (x : Int64) : Nat → Nat
  | 0 => 0
  | n + 1 => la_cnt x n + la_bit x n
theorem la_ones {post : Int32 → Prop} {x : Int64} (h : post (nI (la_cnt x 60))) : wpX_ones post () x :=
  pk_loop (σ := Unit) (fun n i _ => wX_ones_4 post x n (nI (la_cnt x i)) (nI i)) (fun _ _ => True) 60 0 () (by omega) trivial
    (fun n _ _ => pk_le 60 60 (fun _ => h) (fun z => absurd z (by omega)))
    (fun n i _ hi _ hw => pk_le 60 i (fun z => absurd z (by omega)) (fun _ => nm_r (by rw [pk_and _ 1 (by decide), nI_add]; rfl) (nm_r (nI_1 i) (hw () trivial))))
theorem la_low (x : Int64) : ∃ r, ∀ post : Int32 → Prop, post r → wpX_lowest post () x := by
  have key : ∀ k i, i + k = 60 → ∃ r, ∀ post : Int32 → Prop, post r → ∃ n, wX_lowest_2 post x n (nI i) := by
    intro k
    induction k with
    | zero => exact fun i hi => ⟨nI i, fun post h => ⟨1, pk_le 60 i (fun _ => h) (fun z => absurd z (by omega))⟩⟩
    | succ k ih =>
      intro i hi
      by_cases c : ((x >>> ((nI i).toInt64 &&& 63)) &&& 1) = 0
      · obtain ⟨r, hr⟩ := ih (i + 1) (by omega)
        refine ⟨r, fun post h => ?_⟩
        obtain ⟨n, hn⟩ := hr post h
        exact ⟨n + 1, pk_le 60 i (fun z => absurd z (by omega)) (fun _ => br_t c (nm_r (nI_1 i) hn))⟩
      · exact ⟨nI i, fun post h => ⟨1, pk_le 60 i (fun z => absurd z (by omega)) (fun _ => br_f c h)⟩⟩
  obtain ⟨r, hr⟩ := key 60 0 rfl
  exact ⟨r, fun post h => hr post h⟩
theorem la_rank (S : Nat) (hS : S ≤ 60) (sL : Nat → Int64) (s : Nat) (hs : s < S) : ∃ r : Int32, ∀ (post : Int32 → Prop) (f0 f1 f2 f3 f4 f5 : Int32) (f6 : Int64) (f7 : Int32) (a1 a2 a3 a4 a5 a6 a7 a8 : Nat → Int32) (a9 : Nat → Int64) (a10 : Nat → Int32) (a11 : Nat → Int64) (a12 a13 a14 a15 a16 a17 a18 a19 a20 : Nat → Int32), f3 = nI S → a9 = sL → post r → wpX_rankOf post (f0, f1, f2, f3, f4, f5, f6, f7, a1, a2, a3, a4, a5, a6, a7, a8, a9, a10, a11, a12, a13, a14, a15, a16, a17, a18, a19, a20) (nI s) := by
  have key : ∀ k i (c : Int32), i + k = S → ∃ r : Int32, ∀ (post : Int32 → Prop) (f0 f1 f2 f3 f4 f5 : Int32) (f6 : Int64) (f7 : Int32) (a1 a2 a3 a4 a5 a6 a7 a8 : Nat → Int32) (a9 : Nat → Int64) (a10 : Nat → Int32) (a11 : Nat → Int64) (a12 a13 a14 a15 a16 a17 a18 a19 a20 : Nat → Int32), f3 = nI S → a9 = sL → post r → ∃ n, wX_rankOf_15 post (nI s) (nI (la_cnt (sL s) 60)) f0 f1 f2 f3 f4 f5 f6 f7 a1 a2 a3 a4 a5 a6 a7 a8 a9 a10 a11 a12 a13 a14 a15 a16 a17 a18 a19 a20 n c (nI i) := by
    intro k
    induction k with
    | zero =>
      intro i c hi
      refine ⟨c, ?_⟩
      intro post f0 f1 f2 f3 f4 f5 f6 f7 a1 a2 a3 a4 a5 a6 a7 a8 a9 a10 a11 a12 a13 a14 a15 a16 a17 a18 a19 a20 h3 h9 h
      subst h3
      exact ⟨1, pk_le S i (fun _ => h) (fun z => absurd z (by omega))⟩
    | succ k ih =>
      intro i c hi
      by_cases c1 : nI (la_cnt (sL s) 60) < nI (la_cnt (sL i) 60)
      · obtain ⟨r, hr⟩ := ih (i + 1) (c + 1) (by omega)
        refine ⟨r, ?_⟩
        intro post f0 f1 f2 f3 f4 f5 f6 f7 a1 a2 a3 a4 a5 a6 a7 a8 a9 a10 a11 a12 a13 a14 a15 a16 a17 a18 a19 a20 h3 h9 h
        obtain ⟨n, hn⟩ := hr post f0 f1 f2 f3 f4 f5 f6 f7 a1 a2 a3 a4 a5 a6 a7 a8 a9 a10 a11 a12 a13 a14 a15 a16 a17 a18 a19 a20 h3 h9 h
        subst h3 h9
        refine ⟨n + 1, pk_le S i (fun z => absurd z (by omega)) (fun _ => ⟨pk_in i 60 (by omega), ?_⟩)⟩
        rw [nI_clamp (by omega)]
        exact la_ones (br_t c1 (nm_e (nm_r (nI_1 i) hn)))
      · by_cases c2 : nI (la_cnt (sL i) 60) = nI (la_cnt (sL s) 60)
        · by_cases c3 : nI s ≤ nI i
          · obtain ⟨r, hr⟩ := ih (i + 1) (c + 0) (by omega)
            refine ⟨r, ?_⟩
            intro post f0 f1 f2 f3 f4 f5 f6 f7 a1 a2 a3 a4 a5 a6 a7 a8 a9 a10 a11 a12 a13 a14 a15 a16 a17 a18 a19 a20 h3 h9 h
            obtain ⟨n, hn⟩ := hr post f0 f1 f2 f3 f4 f5 f6 f7 a1 a2 a3 a4 a5 a6 a7 a8 a9 a10 a11 a12 a13 a14 a15 a16 a17 a18 a19 a20 h3 h9 h
            subst h3 h9
            refine ⟨n + 1, pk_le S i (fun z => absurd z (by omega)) (fun _ => ⟨pk_in i 60 (by omega), ?_⟩)⟩
            rw [nI_clamp (by omega)]
            exact la_ones (br_f c1 (br_t c2 (br_t c3 (nm_e (nm_r (nI_1 i) hn)))))
          · obtain ⟨r, hr⟩ := ih (i + 1) (c + 1) (by omega)
            refine ⟨r, ?_⟩
            intro post f0 f1 f2 f3 f4 f5 f6 f7 a1 a2 a3 a4 a5 a6 a7 a8 a9 a10 a11 a12 a13 a14 a15 a16 a17 a18 a19 a20 h3 h9 h
            obtain ⟨n, hn⟩ := hr post f0 f1 f2 f3 f4 f5 f6 f7 a1 a2 a3 a4 a5 a6 a7 a8 a9 a10 a11 a12 a13 a14 a15 a16 a17 a18 a19 a20 h3 h9 h
            subst h3 h9
            refine ⟨n + 1, pk_le S i (fun z => absurd z (by omega)) (fun _ => ⟨pk_in i 60 (by omega), ?_⟩)⟩
            rw [nI_clamp (by omega)]
            exact la_ones (br_f c1 (br_t c2 (br_f c3 (nm_e (nm_r (nI_1 i) hn)))))
        · obtain ⟨r, hr⟩ := ih (i + 1) (c + 0) (by omega)
          refine ⟨r, ?_⟩
          intro post f0 f1 f2 f3 f4 f5 f6 f7 a1 a2 a3 a4 a5 a6 a7 a8 a9 a10 a11 a12 a13 a14 a15 a16 a17 a18 a19 a20 h3 h9 h
          obtain ⟨n, hn⟩ := hr post f0 f1 f2 f3 f4 f5 f6 f7 a1 a2 a3 a4 a5 a6 a7 a8 a9 a10 a11 a12 a13 a14 a15 a16 a17 a18 a19 a20 h3 h9 h
          subst h3 h9
          refine ⟨n + 1, pk_le S i (fun z => absurd z (by omega)) (fun _ => ⟨pk_in i 60 (by omega), ?_⟩)⟩
          rw [nI_clamp (by omega)]
          exact la_ones (br_f c1 (br_f c2 (nm_e (nm_r (nI_1 i) hn))))
  obtain ⟨r, hr⟩ := key S 0 0 (by omega)
  refine ⟨r, ?_⟩
  intro post f0 f1 f2 f3 f4 f5 f6 f7 a1 a2 a3 a4 a5 a6 a7 a8 a9 a10 a11 a12 a13 a14 a15 a16 a17 a18 a19 a20 h3 h9 h
  have hn := hr post f0 f1 f2 f3 f4 f5 f6 f7 a1 a2 a3 a4 a5 a6 a7 a8 a9 a10 a11 a12 a13 a14 a15 a16 a17 a18 a19 a20 h3 h9 h
  subst h3 h9
  unfold wpX_rankOf
  refine ⟨pk_in s 60 (by omega), ?_⟩
  rw [nI_clamp (by omega)]
  exact la_ones hn
theorem la_firstOf (sL : Nat → Int64) (s : Nat) (hs : s < 60) : ∃ r : Int32, ∀ (post : Int32 → Prop) (f0 f1 f2 f3 f4 f5 : Int32) (f6 : Int64) (f7 : Int32) (a1 a2 a3 a4 a5 a6 a7 a8 : Nat → Int32) (a9 : Nat → Int64) (a10 : Nat → Int32) (a11 : Nat → Int64) (a12 a13 a14 a15 a16 a17 a18 a19 a20 : Nat → Int32), a9 = sL → post r → wpX_firstOf post (f0, f1, f2, f3, f4, f5, f6, f7, a1, a2, a3, a4, a5, a6, a7, a8, a9, a10, a11, a12, a13, a14, a15, a16, a17, a18, a19, a20) (nI s) := by
  obtain ⟨r, hr⟩ := la_low (sL s)
  refine ⟨r, ?_⟩
  intro post f0 f1 f2 f3 f4 f5 f6 f7 a1 a2 a3 a4 a5 a6 a7 a8 a9 a10 a11 a12 a13 a14 a15 a16 a17 a18 a19 a20 h9 h
  subst h9
  unfold wpX_firstOf
  refine ⟨pk_in s 60 (by omega), ?_⟩
  rw [nI_clamp (by omega)]
  exact hr _ h
theorem la_largest (S : Nat) (hS : S ≤ 60) (sL : Nat → Int64) (x : Int32) : ∃ r : Int32, ∀ (post : Int32 → Prop) (f0 f1 f2 f3 f4 f5 : Int32) (f6 : Int64) (f7 : Int32) (a1 a2 a3 a4 a5 a6 a7 a8 : Nat → Int32) (a9 : Nat → Int64) (a10 : Nat → Int32) (a11 : Nat → Int64) (a12 a13 a14 a15 a16 a17 a18 a19 a20 : Nat → Int32), f3 = nI S → a9 = sL → post r → wpX_largest post (f0, f1, f2, f3, f4, f5, f6, f7, a1, a2, a3, a4, a5, a6, a7, a8, a9, a10, a11, a12, a13, a14, a15, a16, a17, a18, a19, a20) x := by
  have key : ∀ k i, i + k = S → ∃ r : Int32, ∀ (post : Int32 → Prop) (f0 f1 f2 f3 f4 f5 : Int32) (f6 : Int64) (f7 : Int32) (a1 a2 a3 a4 a5 a6 a7 a8 : Nat → Int32) (a9 : Nat → Int64) (a10 : Nat → Int32) (a11 : Nat → Int64) (a12 a13 a14 a15 a16 a17 a18 a19 a20 : Nat → Int32), f3 = nI S → a9 = sL → post r → ∃ n, wX_largest_2 post x f0 f1 f2 f3 f4 f5 f6 f7 a1 a2 a3 a4 a5 a6 a7 a8 a9 a10 a11 a12 a13 a14 a15 a16 a17 a18 a19 a20 n (nI i) := by
    intro k
    induction k with
    | zero =>
      intro i hi
      refine ⟨-2, ?_⟩
      intro post f0 f1 f2 f3 f4 f5 f6 f7 a1 a2 a3 a4 a5 a6 a7 a8 a9 a10 a11 a12 a13 a14 a15 a16 a17 a18 a19 a20 h3 h9 h
      subst h3
      exact ⟨1, pk_le S i (fun _ => h) (fun z => absurd z (by omega))⟩
    | succ k ih =>
      intro i hi
      obtain ⟨rk, hrk⟩ := la_rank S hS sL i (by omega)
      by_cases c1 : rk = x
      · obtain ⟨r, hr⟩ := la_firstOf sL i (by omega)
        refine ⟨r, ?_⟩
        intro post f0 f1 f2 f3 f4 f5 f6 f7 a1 a2 a3 a4 a5 a6 a7 a8 a9 a10 a11 a12 a13 a14 a15 a16 a17 a18 a19 a20 h3 h9 h
        have t := fun (P : Int32 → Prop) hP => hrk P f0 f1 f2 f3 f4 f5 f6 f7 a1 a2 a3 a4 a5 a6 a7 a8 a9 a10 a11 a12 a13 a14 a15 a16 a17 a18 a19 a20 h3 h9 hP
        have t2 := fun (P : Int32 → Prop) hP => hr P f0 f1 f2 f3 f4 f5 f6 f7 a1 a2 a3 a4 a5 a6 a7 a8 a9 a10 a11 a12 a13 a14 a15 a16 a17 a18 a19 a20 h9 hP
        subst h3
        exact ⟨1, pk_le S i (fun z => absurd z (by omega)) (fun _ => t _ (br_t c1 (t2 _ h)))⟩
      · obtain ⟨r, hr⟩ := ih (i + 1) (by omega)
        refine ⟨r, ?_⟩
        intro post f0 f1 f2 f3 f4 f5 f6 f7 a1 a2 a3 a4 a5 a6 a7 a8 a9 a10 a11 a12 a13 a14 a15 a16 a17 a18 a19 a20 h3 h9 h
        obtain ⟨n, hn⟩ := hr post f0 f1 f2 f3 f4 f5 f6 f7 a1 a2 a3 a4 a5 a6 a7 a8 a9 a10 a11 a12 a13 a14 a15 a16 a17 a18 a19 a20 h3 h9 h
        have t := fun (P : Int32 → Prop) hP => hrk P f0 f1 f2 f3 f4 f5 f6 f7 a1 a2 a3 a4 a5 a6 a7 a8 a9 a10 a11 a12 a13 a14 a15 a16 a17 a18 a19 a20 h3 h9 hP
        subst h3
        exact ⟨n + 1, pk_le S i (fun z => absurd z (by omega)) (fun _ => t _ (br_f c1 (nm_r (nI_1 i) hn)))⟩
  obtain ⟨r, hr⟩ := key S 0 (by omega)
  exact ⟨r, fun post f0 f1 f2 f3 f4 f5 f6 f7 a1 a2 a3 a4 a5 a6 a7 a8 a9 a10 a11 a12 a13 a14 a15 a16 a17 a18 a19 a20 h3 h9 h => hr post f0 f1 f2 f3 f4 f5 f6 f7 a1 a2 a3 a4 a5 a6 a7 a8 a9 a10 a11 a12 a13 a14 a15 a16 a17 a18 a19 a20 h3 h9 h⟩
theorem la_cb (L : Nat) (hL : L ≤ 60) (p : Nat → Prop) : ∃ r, r ≤ L ∧ ∀ (post : Int32 → Prop) (t : Int32) (f0 f1 f2 f3 f4 f5 : Int32) (f6 : Int64) (f7 : Int32) (a1 a2 a3 a4 a5 a6 a7 a8 : Nat → Int32) (a9 : Nat → Int64) (a10 : Nat → Int32) (a11 : Nat → Int64) (a12 a13 a14 a15 a16 a17 a18 a19 a20 : Nat → Int32), f2 = nI L → (∀ m, m < L → (t ≤ a3 m ↔ ¬ p m)) → post (nI r) → wpX_countBelow post (f0, f1, f2, f3, f4, f5, f6, f7, a1, a2, a3, a4, a5, a6, a7, a8, a9, a10, a11, a12, a13, a14, a15, a16, a17, a18, a19, a20) t := by
  have key : ∀ d lo hi, hi - lo ≤ d → lo ≤ hi → hi ≤ L → ∃ r, r ≤ L ∧ ∀ (post : Int32 → Prop) (t : Int32) (f0 f1 f2 f3 f4 f5 : Int32) (f6 : Int64) (f7 : Int32) (a1 a2 a3 a4 a5 a6 a7 a8 : Nat → Int32) (a9 : Nat → Int64) (a10 : Nat → Int32) (a11 : Nat → Int64) (a12 a13 a14 a15 a16 a17 a18 a19 a20 : Nat → Int32), (∀ m, m < L → (t ≤ a3 m ↔ ¬ p m)) → post (nI r) → ∃ n, wX_countBelow_7 post t f0 f1 f2 f3 f4 f5 f6 f7 a1 a2 a3 a4 a5 a6 a7 a8 a9 a10 a11 a12 a13 a14 a15 a16 a17 a18 a19 a20 n (nI lo) (nI hi) := by
    intro d
    induction d with
    | zero =>
      intro lo hi h1 h2 h3
      refine ⟨lo, by omega, ?_⟩
      intro post t f0 f1 f2 f3 f4 f5 f6 f7 a1 a2 a3 a4 a5 a6 a7 a8 a9 a10 a11 a12 a13 a14 a15 a16 a17 a18 a19 a20 hm h
      exact ⟨1, pk_le hi lo (fun _ => h) (fun z => absurd z (by omega))⟩
    | succ d ih =>
      intro lo hi h1 h2 h3
      by_cases e : hi ≤ lo
      · refine ⟨lo, by omega, ?_⟩
        intro post t f0 f1 f2 f3 f4 f5 f6 f7 a1 a2 a3 a4 a5 a6 a7 a8 a9 a10 a11 a12 a13 a14 a15 a16 a17 a18 a19 a20 hm h
        exact ⟨1, pk_le hi lo (fun _ => h) (fun z => absurd z (by omega))⟩
      · have em : (nI lo + nI hi) >>> ((1 : Int32) &&& 31) = nI ((lo + hi) / 2) := by
          rw [nI_add, pk_shrN (by omega) _ 1 (by decide), Nat.pow_one]
        by_cases c : p ((lo + hi) / 2)
        · obtain ⟨r, hr1, hr⟩ := ih ((lo + hi) / 2 + 1) hi (by omega) (by omega) h3
          refine ⟨r, hr1, ?_⟩
          intro post t f0 f1 f2 f3 f4 f5 f6 f7 a1 a2 a3 a4 a5 a6 a7 a8 a9 a10 a11 a12 a13 a14 a15 a16 a17 a18 a19 a20 hm h
          obtain ⟨n, hn⟩ := hr post t f0 f1 f2 f3 f4 f5 f6 f7 a1 a2 a3 a4 a5 a6 a7 a8 a9 a10 a11 a12 a13 a14 a15 a16 a17 a18 a19 a20 hm h
          refine ⟨n + 1, pk_le hi lo (fun z => absurd z (by omega)) (fun _ => nm_r em ⟨pk_in ((lo + hi) / 2) 60 (by omega), ?_⟩)⟩
          rw [nI_clamp (by omega)]
          exact br_f (fun z => (hm _ (by omega)).mp z c) (nm_r (nI_1 _) hn)
        · obtain ⟨r, hr1, hr⟩ := ih lo ((lo + hi) / 2) (by omega) (by omega) (by omega)
          refine ⟨r, hr1, ?_⟩
          intro post t f0 f1 f2 f3 f4 f5 f6 f7 a1 a2 a3 a4 a5 a6 a7 a8 a9 a10 a11 a12 a13 a14 a15 a16 a17 a18 a19 a20 hm h
          obtain ⟨n, hn⟩ := hr post t f0 f1 f2 f3 f4 f5 f6 f7 a1 a2 a3 a4 a5 a6 a7 a8 a9 a10 a11 a12 a13 a14 a15 a16 a17 a18 a19 a20 hm h
          refine ⟨n + 1, pk_le hi lo (fun z => absurd z (by omega)) (fun _ => nm_r em ⟨pk_in ((lo + hi) / 2) 60 (by omega), ?_⟩)⟩
          rw [nI_clamp (by omega)]
          exact br_t ((hm _ (by omega)).mpr c) hn
  obtain ⟨r, hr1, hr⟩ := key L 0 L (by omega) (by omega) (Nat.le_refl L)
  refine ⟨r, hr1, ?_⟩
  intro post t f0 f1 f2 f3 f4 f5 f6 f7 a1 a2 a3 a4 a5 a6 a7 a8 a9 a10 a11 a12 a13 a14 a15 a16 a17 a18 a19 a20 h2 hm h
  have hn := hr post t f0 f1 f2 f3 f4 f5 f6 f7 a1 a2 a3 a4 a5 a6 a7 a8 a9 a10 a11 a12 a13 a14 a15 a16 a17 a18 a19 a20 hm h
  subst h2
  exact hn
theorem la_burst (L : Nat) (hL : L ≤ 60) (w : Int32) (q : Nat → Nat → Prop) : ∃ r : Int32, ∀ (post : Int32 → Prop) (f0 f1 f2 f3 f4 f5 : Int32) (f6 : Int64) (f7 : Int32) (a1 a2 a3 a4 a5 a6 a7 a8 : Nat → Int32) (a9 : Nat → Int64) (a10 : Nat → Int32) (a11 : Nat → Int64) (a12 a13 a14 a15 a16 a17 a18 a19 a20 : Nat → Int32), f2 = nI L → (∀ e b, e < L → b < L → (w ≤ a3 e - a3 b ↔ q e b)) → post r → wpX_burst post (f0, f1, f2, f3, f4, f5, f6, f7, a1, a2, a3, a4, a5, a6, a7, a8, a9, a10, a11, a12, a13, a14, a15, a16, a17, a18, a19, a20) w := by
  by_cases hw : 1 ≤ w
  rotate_left 1
  · refine ⟨-1, ?_⟩
    intro post f0 f1 f2 f3 f4 f5 f6 f7 a1 a2 a3 a4 a5 a6 a7 a8 a9 a10 a11 a12 a13 a14 a15 a16 a17 a18 a19 a20 h2 hq h
    exact br_f hw h
  have inner : ∀ k e b, e + k = L → b < L → ∃ e', e' ≤ L ∧ ∀ (post : Int32 → Prop) (J : Int32 → Int32 → Int32 → Prop) (x2 : Int32) (f0 f1 f2 f3 f4 f5 : Int32) (f6 : Int64) (f7 : Int32) (a1 a2 a3 a4 a5 a6 a7 a8 : Nat → Int32) (a9 : Nat → Int64) (a10 : Nat → Int32) (a11 : Nat → Int64) (a12 a13 a14 a15 a16 a17 a18 a19 a20 : Nat → Int32), f2 = nI L → (∀ e b, e < L → b < L → (w ≤ a3 e - a3 b ↔ q e b)) →
      wX_burst_55 post J w x2 (nI e') (nI b) f0 f1 f2 f3 f4 f5 f6 f7 a1 a2 a3 a4 a5 a6 a7 a8 a9 a10 a11 a12 a13 a14 a15 a16 a17 a18 a19 a20 → ∃ n, wX_burst_23 post J w x2 (nI b) f0 f1 f2 f3 f4 f5 f6 f7 a1 a2 a3 a4 a5 a6 a7 a8 a9 a10 a11 a12 a13 a14 a15 a16 a17 a18 a19 a20 n (nI e) := by
    intro k
    induction k with
    | zero =>
      intro e b he hb
      refine ⟨e, by omega, ?_⟩
      intro post J x2 f0 f1 f2 f3 f4 f5 f6 f7 a1 a2 a3 a4 a5 a6 a7 a8 a9 a10 a11 a12 a13 a14 a15 a16 a17 a18 a19 a20 h2 hq h
      subst h2
      exact ⟨1, pk_le L e (fun _ => h) (fun z => absurd z (by omega))⟩
    | succ k ih =>
      intro e b he hb
      by_cases c : q e b
      · refine ⟨e, by omega, ?_⟩
        intro post J x2 f0 f1 f2 f3 f4 f5 f6 f7 a1 a2 a3 a4 a5 a6 a7 a8 a9 a10 a11 a12 a13 a14 a15 a16 a17 a18 a19 a20 h2 hq h
        subst h2
        refine ⟨1, pk_le L e (fun z => absurd z (by omega)) (fun _ => ⟨pk_in e 60 (by omega), pk_in b 60 (by omega), ?_⟩)⟩
        rw [nI_clamp (by omega), nI_clamp (by omega)]
        exact br_t ((hq e b (by omega) hb).mpr c) h
      · obtain ⟨e', h1, hr⟩ := ih (e + 1) b (by omega) hb
        refine ⟨e', h1, ?_⟩
        intro post J x2 f0 f1 f2 f3 f4 f5 f6 f7 a1 a2 a3 a4 a5 a6 a7 a8 a9 a10 a11 a12 a13 a14 a15 a16 a17 a18 a19 a20 h2 hq h
        obtain ⟨n, hn⟩ := hr post J x2 f0 f1 f2 f3 f4 f5 f6 f7 a1 a2 a3 a4 a5 a6 a7 a8 a9 a10 a11 a12 a13 a14 a15 a16 a17 a18 a19 a20 h2 hq h
        subst h2
        refine ⟨n + 1, pk_le L e (fun z => absurd z (by omega)) (fun _ => ⟨pk_in e 60 (by omega), pk_in b 60 (by omega), ?_⟩)⟩
        rw [nI_clamp (by omega), nI_clamp (by omega)]
        exact br_f (fun z => c ((hq e b (by omega) hb).mp z)) (nm_r (nI_1 e) hn)
  have outer : ∀ k b (m : Int32) e, b + k = L → e ≤ L → ∃ r : Int32, ∀ (post : Int32 → Prop) (f0 f1 f2 f3 f4 f5 : Int32) (f6 : Int64) (f7 : Int32) (a1 a2 a3 a4 a5 a6 a7 a8 : Nat → Int32) (a9 : Nat → Int64) (a10 : Nat → Int32) (a11 : Nat → Int64) (a12 a13 a14 a15 a16 a17 a18 a19 a20 : Nat → Int32), f2 = nI L → (∀ e b, e < L → b < L → (w ≤ a3 e - a3 b ↔ q e b)) → post r → ∃ n, wX_burst_14 post w f0 f1 f2 f3 f4 f5 f6 f7 a1 a2 a3 a4 a5 a6 a7 a8 a9 a10 a11 a12 a13 a14 a15 a16 a17 a18 a19 a20 n m (nI e) (nI b) := by
    intro k
    induction k with
    | zero =>
      intro b m e hb he
      refine ⟨m, ?_⟩
      intro post f0 f1 f2 f3 f4 f5 f6 f7 a1 a2 a3 a4 a5 a6 a7 a8 a9 a10 a11 a12 a13 a14 a15 a16 a17 a18 a19 a20 h2 hq h
      subst h2
      exact ⟨1, pk_le L b (fun _ => h) (fun z => absurd z (by omega))⟩
    | succ k ih =>
      intro b m e hb he
      obtain ⟨e', he', hin⟩ := inner (L - e) e b (by omega) (by omega)
      by_cases c : nI e' - nI b ≤ m
      · obtain ⟨r, hr⟩ := ih (b + 1) m e' (by omega) he'
        refine ⟨r, ?_⟩
        intro post f0 f1 f2 f3 f4 f5 f6 f7 a1 a2 a3 a4 a5 a6 a7 a8 a9 a10 a11 a12 a13 a14 a15 a16 a17 a18 a19 a20 h2 hq h
        obtain ⟨n, hn⟩ := hr post f0 f1 f2 f3 f4 f5 f6 f7 a1 a2 a3 a4 a5 a6 a7 a8 a9 a10 a11 a12 a13 a14 a15 a16 a17 a18 a19 a20 h2 hq h
        have t := hin post (wX_burst_14 post w f0 f1 f2 f3 f4 f5 f6 f7 a1 a2 a3 a4 a5 a6 a7 a8 a9 a10 a11 a12 a13 a14 a15 a16 a17 a18 a19 a20 n) m f0 f1 f2 f3 f4 f5 f6 f7 a1 a2 a3 a4 a5 a6 a7 a8 a9 a10 a11 a12 a13 a14 a15 a16 a17 a18 a19 a20 h2 hq (br_t c (nm_r (nI_1 b) hn))
        subst h2
        exact ⟨n + 1, pk_le L b (fun z => absurd z (by omega)) (fun _ => t)⟩
      · obtain ⟨r, hr⟩ := ih (b + 1) (nI e' - nI b) e' (by omega) he'
        refine ⟨r, ?_⟩
        intro post f0 f1 f2 f3 f4 f5 f6 f7 a1 a2 a3 a4 a5 a6 a7 a8 a9 a10 a11 a12 a13 a14 a15 a16 a17 a18 a19 a20 h2 hq h
        obtain ⟨n, hn⟩ := hr post f0 f1 f2 f3 f4 f5 f6 f7 a1 a2 a3 a4 a5 a6 a7 a8 a9 a10 a11 a12 a13 a14 a15 a16 a17 a18 a19 a20 h2 hq h
        have t := hin post (wX_burst_14 post w f0 f1 f2 f3 f4 f5 f6 f7 a1 a2 a3 a4 a5 a6 a7 a8 a9 a10 a11 a12 a13 a14 a15 a16 a17 a18 a19 a20 n) m f0 f1 f2 f3 f4 f5 f6 f7 a1 a2 a3 a4 a5 a6 a7 a8 a9 a10 a11 a12 a13 a14 a15 a16 a17 a18 a19 a20 h2 hq (br_f c (nm_e (nm_r (nI_1 b) hn)))
        subst h2
        exact ⟨n + 1, pk_le L b (fun z => absurd z (by omega)) (fun _ => t)⟩
  obtain ⟨r, hr⟩ := outer L 0 0 0 (by omega) (by omega)
  refine ⟨r, ?_⟩
  intro post f0 f1 f2 f3 f4 f5 f6 f7 a1 a2 a3 a4 a5 a6 a7 a8 a9 a10 a11 a12 a13 a14 a15 a16 a17 a18 a19 a20 h2 hq h
  exact br_t hw (hr post f0 f1 f2 f3 f4 f5 f6 f7 a1 a2 a3 a4 a5 a6 a7 a8 a9 a10 a11 a12 a13 a14 a15 a16 a17 a18 a19 a20 h2 hq h)
end
section
/-! ===== numbers in bytes: what takeNumber reads, lines added up ===== -/
def la_dec (x : Int32) : Int32 := if (x &&& 1) = 0 then x >>> ((1 : Int32) &&& 31) else -((x + 1) >>> ((1 : Int32) &&& 31))
/-- at place p stands the difference d, up to p' -/
def la_E (b : Nat → Int32) (p : Nat) (d : Int32) (p' : Nat) : Prop :=
  (p < 960 ∧ (b p &&& 255) < 128 ∧ p' = p + 1 ∧ la_dec (b p &&& 255) = d) ∨
  (p + 1 < 960 ∧ ¬ (b p &&& 255) < 128 ∧ p' = p + 2 ∧ la_dec (((b p &&& 255) &&& 127) ||| ((b (p + 1) &&& 255) <<< ((7 : Int32) &&& 31))) = d)
theorem la_E_keep {b b' : Nat → Int32} {p p' : Nat} {d : Int32} (h : la_E b p d p') (hb : ∀ j, j < p' → b' j = b j) : la_E b' p d p' := by
  rcases h with ⟨h1, h2, h3, h4⟩ | ⟨h1, h2, h3, h4⟩
  · have e := hb p (by omega)
    exact Or.inl ⟨h1, by rw [e]; exact h2, h3, by rw [e]; exact h4⟩
  · have e := hb p (by omega)
    have e' := hb (p + 1) (by omega)
    exact Or.inr ⟨h1, by rw [e]; exact h2, h3, by rw [e, e']; exact h4⟩
theorem la_63 {post : Int32 → St1 → Prop} {f0 f1 f2 f3 f4 f5 : Int32} {f6 : Int64} {f7 : Int32} {a1 a2 a3 a4 a5 a6 a7 a8 : Nat → Int32} {a9 : Nat → Int64} {a10 : Nat → Int32} {a11 : Nat → Int64} {a12 a13 a14 a15 a16 a17 a18 a19 a20 : Nat → Int32} {x d : Int32} (h : la_dec x = d) (H : post d (f0, f1, f2, f3, f4, f5, f6, f7, a1, a2, a3, a4, a5, a6, a7, a8, a9, a10, a11, a12, a13, a14, a15, a16, a17, a18, a19, a20)) : wX_takeNumber_63 post x f0 f1 f2 f3 f4 f5 f6 f7 a1 a2 a3 a4 a5 a6 a7 a8 a9 a10 a11 a12 a13 a14 a15 a16 a17 a18 a19 a20 := by
  unfold wX_takeNumber_63
  subst h
  unfold la_dec at H
  refine br_c (fun c => ?_) (fun c => ?_)
  · rw [if_pos c] at H
    exact H
  · rw [if_neg c] at H
    exact H
theorem la_take {post : Int32 → St1 → Prop} {f0 f1 f2 f3 f4 f5 : Int32} {f6 : Int64} {f7 : Int32} {a1 a2 a3 a4 a5 a6 a7 a8 : Nat → Int32} {a9 : Nat → Int64} {a10 : Nat → Int32} {a11 : Nat → Int64} {a12 a13 a14 a15 a16 a17 a18 a19 a20 : Nat → Int32} {p p' : Nat} {d : Int32} (h : la_E a6 p d p') (H : post d (f0, f1, f2, f3, f4, f5, f6, nI p', a1, a2, a3, a4, a5, a6, a7, a8, a9, a10, a11, a12, a13, a14, a15, a16, a17, a18, a19, a20)) : wpX_takeNumber post (f0, f1, f2, f3, f4, f5, f6, nI p, a1, a2, a3, a4, a5, a6, a7, a8, a9, a10, a11, a12, a13, a14, a15, a16, a17, a18, a19, a20) := by
  unfold wpX_takeNumber
  rcases h with ⟨h1, h2, h3, h4⟩ | ⟨h1, h2, h3, h4⟩
  · subst h3
    refine ⟨pk_in p 960 h1, ?_⟩
    rw [nI_clamp (by omega)]
    exact nm_e (nm_r (nI_1 p) (br_t h2 (la_63 h4 H)))
  · subst h3
    refine ⟨pk_in p 960 (by omega), ?_⟩
    rw [nI_clamp (by omega)]
    refine nm_e (nm_r (nI_1 p) (br_f h2 ⟨pk_in (p + 1) 960 h1, ?_⟩))
    rw [nI_clamp (by omega)]
    exact nm_e (nm_r (nI_1 (p + 1)) (la_63 h4 H))
theorem la_ix (s i : Nat) : (8 : Int32) * nI s + nI i = nI (8 * s + i) := by
  rw [show (8 : Int32) = nI 8 from rfl, pk_mul, nI_add]
theorem la_ads (x y : Int32) : y + (x - y) = x := by grind
theorem la_addLine {post : St1 → Prop} {f0 f1 f2 f3 f4 f5 : Int32} {f6 : Int64} {f7 : Int32} {a1 a2 a3 a4 a5 a6 a7 a8 : Nat → Int32} {a9 : Nat → Int64} {a10 : Nat → Int32} {a11 : Nat → Int64} {a12 a13 a14 a15 a16 a17 a18 a19 a20 : Nat → Int32} {l s n : Nat} {B : Nat → Prop} {M Y q : Nat → Nat} (hl : l < 61) (hs : s < 60) (hn : n ≤ 8) (h7 : a7 s = nI n) (h8 : ∀ i, i < n → (a8 (8 * s + i) = 1000 ↔ B i)) (h5 : a5 l = nI (q 0))
    (hq : ∀ i, i < n → (B i → la_E a6 (q i) (nI (M i) - nI (Y i)) (q (i + 1))) ∧ (¬ B i → q (i + 1) = q i)) (hY : ∀ i, i < n → B i → a17 i = nI (Y i))
    (H : ∀ fr b17, (∀ i, i < n → B i → b17 i = nI (M i)) → post (f0, f1, f2, f3, f4, f5, f6, fr, a1, a2, a3, a4, a5, a6, a7, a8, a9, a10, a11, a12, a13, a14, a15, a16, b17, a18, a19, a20)) : wpX_addLine post (f0, f1, f2, f3, f4, f5, f6, f7, a1, a2, a3, a4, a5, a6, a7, a8, a9, a10, a11, a12, a13, a14, a15, a16, a17, a18, a19, a20) (nI l) (nI s) := by
  unfold wpX_addLine
  refine ⟨pk_in l 61 hl, ?_⟩
  rw [nI_clamp (by omega)]
  refine nm_r h5 ?_
  refine pk_loop (fun k i b => wX_addLine_12 post (nI s) k (nI i) f0 f1 f2 f3 f4 f5 f6 (nI (q i)) a1 a2 a3 a4 a5 a6 a7 a8 a9 a10 a11 a12 a13 a14 a15 a16 b a18 a19 a20) (fun i b => (∀ j, j < i → B j → b j = nI (M j)) ∧ (∀ j, i ≤ j → j < n → B j → b j = nI (Y j))) n 0 a17 (by omega) ⟨fun j hj => absurd hj (by omega), fun j _ hj hb => hY j hj hb⟩ ?_ ?_
  · intro k b hI
    refine ⟨pk_in s 60 hs, ?_⟩
    rw [nI_clamp (by omega), h7]
    exact pk_le n n (fun _ => H _ _ hI.1) (fun z => absurd z (by omega))
  · intro k i b hi hI hw
    refine ⟨pk_in s 60 hs, ?_⟩
    rw [nI_clamp (by omega), h7]
    refine pk_le n i (fun z => absurd z (by omega)) (fun _ => ⟨?_, ?_⟩)
    · exact pk_in (8 * s + i) 480 (by omega) (hx := la_ix s i)
    rw [la_ix, nI_clamp (by omega)]
    by_cases c : B i
    · refine br_t ((h8 i hi).mpr c) ⟨pk_in i 8 (by omega), ?_⟩
      rw [nI_clamp (by omega)]
      refine la_take (f7 := f7) ((hq i hi).1 c) ?_
      refine ⟨pk_in i 8 (by omega), nm_e (nm_r (nI_1 i) (hw _ ⟨fun j hj hb => ?_, fun j h1 h2 hb => ?_⟩))⟩
      · by_cases e : j = i
        · subst e
          rw [pk_us, hI.2 j (Nat.le_refl j) hi c, la_ads]
        · rw [pk_un e]
          exact hI.1 j (by omega) hb
      · rw [pk_un (by omega)]
        exact hI.2 j (by omega) h2 hb
    · have t : wX_addLine_12 post (nI s) k (nI (i + 1)) f0 f1 f2 f3 f4 f5 f6 (nI (q (i + 1))) a1 a2 a3 a4 a5 a6 a7 a8 a9 a10 a11 a12 a13 a14 a15 a16 b a18 a19 a20 := hw b ⟨fun j hj hb => by
        by_cases e : j = i
        · subst e
          exact absurd hb c
        · exact hI.1 j (by omega) hb, fun j h1 h2 hb => hI.2 j (by omega) h2 hb⟩
      rw [(hq i hi).2 c] at t
      exact br_f (fun z => c ((h8 i hi).mp z)) (nm_r (nI_1 i) t)
/-- the last number of shape s in column i among the lines below l (0: none) -/
def la_last (M : Nat → Nat → Nat) (sh : Nat → Nat) : Nat → Nat → Nat → Nat
  | 0, _, _ => 0
  | l + 1, s, i => if sh l = s then M l i else la_last M sh l s i
def la_Ln (tp : Nat) (a5 a6 : Nat → Int32) (l n : Nat) (B : Nat → Prop) (M Y : Nat → Nat) : Prop :=
  ∃ q : Nat → Nat, a5 l = nI (q 0) ∧ (∀ i, i ≤ n → q i ≤ tp) ∧ ∀ i, i < n → (B i → la_E a6 (q i) (nI (M i) - nI (Y i)) (q (i + 1))) ∧ (¬ B i → q (i + 1) = q i)
/-- the lines part of the base picture -/
def la_WL (L S : Nat) (sh sl : Nat → Nat) (si N : Nat → Nat → Nat) : Prop :=
  L ≤ 60 ∧ S ≤ L ∧ (∀ l, l < L → sh l < S) ∧ (∀ s, s < S → 1 ≤ sl s ∧ sl s ≤ 8) ∧ (∀ s i, s < S → i < sl s → la_si (si s i)) ∧ (∀ l i, l < L → N l i ≤ 910)
/-- the arrays show the lines part under the view -/
def la_RL (fl : Bool) (ad L S : Nat) (sh sl : Nat → Nat) (si N : Nat → Nat → Nat) (a4 a5 a6 a7 a8 : Nat → Int32) : Prop :=
  (∀ l, l < L → a4 l = nI (sh l)) ∧ (∀ s, s < S → a7 s = nI (sl s)) ∧ (∀ s i, s < S → i < sl s → a8 (8 * s + i) = nI (la_S fl (si s i))) ∧
  ∃ tp, tp ≤ 16 * L ∧ a5 L = nI tp ∧ ∀ l, l < L → la_Ln tp a5 a6 l (sl (sh l)) (fun i => si (sh l) i = 1000) (fun i => N l i + ad) (la_last (fun l i => N l i + ad) sh l (sh l))
/-- the numbers stand as they are behind the lines below l of shape s -/
def la_NA (ad : Nat) (sh sl : Nat → Nat) (si N : Nat → Nat → Nat) (l s : Nat) (b : Nat → Int32) : Prop :=
  ∀ i, i < sl s → si s i = 1000 → b i = nI (la_last (fun l i => N l i + ad) sh l s i)
theorem la_NA_0 {ad : Nat} {sh sl : Nat → Nat} {si N : Nat → Nat → Nat} {s : Nat} {b : Nat → Int32} (hs : sl s ≤ 8) (h : ∀ i, i < 8 → b i = 0) : la_NA ad sh sl si N 0 s b :=
  fun i hi _ => h i (by omega)
theorem la_NA_skip {ad : Nat} {sh sl : Nat → Nat} {si N : Nat → Nat → Nat} {l s : Nat} {b : Nat → Int32} (h : ¬ sh l = s) (hb : la_NA ad sh sl si N l s b) : la_NA ad sh sl si N (l + 1) s b := by
  intro i hi e
  rw [hb i hi e]
  show _ = nI (if sh l = s then N l i + ad else la_last (fun l i => N l i + ad) sh l s i)
  rw [if_neg h]
theorem la_NA_at {ad : Nat} {sh sl : Nat → Nat} {si N : Nat → Nat → Nat} {l s : Nat} {b : Nat → Int32} (h : sh l = s) (hb : la_NA ad sh sl si N (l + 1) s b) {i : Nat} (hi : i < sl s) (e : si s i = 1000) : b i = nI (N l i + ad) := by
  rw [hb i hi e]
  show nI (if sh l = s then N l i + ad else la_last (fun l i => N l i + ad) sh l s i) = _
  rw [if_pos h]
theorem la_8 {fl : Bool} {x : Nat} {y : Int32} (hx : la_si x) (h : y = nI (la_S fl x)) : y = 1000 ↔ x = 1000 := by
  rw [h, show (1000 : Int32) = nI 1000 from rfl, nI_eq (la_si_lt (la_S_ok hx)) (by omega)]
  exact la_S_1000 hx
theorem la_al {post : St1 → Prop} {f0 f1 f2 f3 f4 f5 : Int32} {f6 : Int64} {f7 : Int32} {a1 a2 a3 a4 a5 a6 a7 a8 : Nat → Int32} {a9 : Nat → Int64} {a10 : Nat → Int32} {a11 : Nat → Int64} {a12 a13 a14 a15 a16 a17 a18 a19 a20 : Nat → Int32} {fl : Bool} {ad L S l s : Nat} {sh sl : Nat → Nat} {si N : Nat → Nat → Nat} (hW : la_WL L S sh sl si N) (hR : la_RL fl ad L S sh sl si N a4 a5 a6 a7 a8) (hl : l < L) (hs : sh l = s)
    (hN : la_NA ad sh sl si N l s a17) (H : ∀ fr b17, la_NA ad sh sl si N (l + 1) s b17 → post (f0, f1, f2, f3, f4, f5, f6, fr, a1, a2, a3, a4, a5, a6, a7, a8, a9, a10, a11, a12, a13, a14, a15, a16, b17, a18, a19, a20)) : wpX_addLine post (f0, f1, f2, f3, f4, f5, f6, f7, a1, a2, a3, a4, a5, a6, a7, a8, a9, a10, a11, a12, a13, a14, a15, a16, a17, a18, a19, a20) (nI l) (nI s) := by
  subst hs
  obtain ⟨w1, w2, w3, w4, w5, w6⟩ := hW
  obtain ⟨r1, r2, r3, tp, r4, r5, r6⟩ := hR
  obtain ⟨q, q1, q2, q3⟩ := r6 l hl
  have hs := w3 l hl
  refine la_addLine (B := fun i => si (sh l) i = 1000) (M := fun i => N l i + ad) (Y := la_last (fun l i => N l i + ad) sh l (sh l)) (q := q) (n := sl (sh l)) (by omega) (by omega) (w4 _ hs).2 (r2 _ hs) (fun i hi => la_8 (w5 _ i hs hi) (r3 _ i hs hi)) q1 q3 hN (fun fr b17 hb => H fr b17 ?_)
  intro i hi e
  rw [hb i hi e]
  show _ = nI (if sh l = sh l then N l i + ad else la_last (fun l i => N l i + ad) sh l (sh l) i)
  rw [if_pos rfl]
theorem la_clear {post : St1 → Prop} {f0 f1 f2 f3 f4 f5 : Int32} {f6 : Int64} {f7 : Int32} {a1 a2 a3 a4 a5 a6 a7 a8 : Nat → Int32} {a9 : Nat → Int64} {a10 : Nat → Int32} {a11 : Nat → Int64} {a12 a13 a14 a15 a16 a17 a18 a19 a20 : Nat → Int32} (H : ∀ b17, (∀ i, i < 8 → b17 i = 0) → post (f0, f1, f2, f3, f4, f5, f6, f7, a1, a2, a3, a4, a5, a6, a7, a8, a9, a10, a11, a12, a13, a14, a15, a16, b17, a18, a19, a20)) : wpX_clearNumbers post (f0, f1, f2, f3, f4, f5, f6, f7, a1, a2, a3, a4, a5, a6, a7, a8, a9, a10, a11, a12, a13, a14, a15, a16, a17, a18, a19, a20) := by
  unfold wpX_clearNumbers
  refine pk_loop (fun k i b => wX_clearNumbers_2 post f0 f1 f2 f3 f4 f5 f6 f7 k (nI i) a1 a2 a3 a4 a5 a6 a7 a8 a9 a10 a11 a12 a13 a14 a15 a16 b a18 a19 a20) (fun i b => ∀ j, j < i → b j = 0) 8 0 a17 (by omega) (fun j hj => absurd hj (by omega)) ?_ ?_
  · intro k b hI
    exact pk_le 8 8 (fun _ => H b hI) (fun z => absurd z (by omega))
  · intro k i b hi hI hw
    refine pk_le 8 i (fun z => absurd z (by omega)) (fun _ => ⟨pk_in i 8 hi, nm_e (nm_r (nI_1 i) (hw _ ?_))⟩)
    rw [nI_clamp (by omega)]
    intro j hj
    by_cases e : j = i
    · rw [e, pk_us]
    · rw [pk_un e]
      exact hI j (by omega)
/-- the item at a place of a line, in the base picture -/
def la_item (sh : Nat → Nat) (si N : Nat → Nat → Nat) (l i : Nat) : Nat := if si (sh l) i = 1000 then 1000 + N l i else si (sh l) i
theorem la_item_ok {L S : Nat} {sh sl : Nat → Nat} {si N : Nat → Nat → Nat} (hW : la_WL L S sh sl si N) {l i : Nat} (hl : l < L) (hi : i < sl (sh l)) : la_it (la_item sh si N l i) := by
  obtain ⟨w1, w2, w3, w4, w5, w6⟩ := hW
  have h1 := w5 (sh l) i (w3 l hl) hi
  have h2 := w6 l i hl
  unfold la_item la_it
  unfold la_si at h1
  split <;> omega
theorem la_read {post : St1 → Prop} {f0 f1 f2 f3 f4 f5 : Int32} {f6 : Int64} {f7 : Int32} {a1 a2 a3 a4 a5 a6 a7 a8 : Nat → Int32} {a9 : Nat → Int64} {a10 : Nat → Int32} {a11 : Nat → Int64} {a12 a13 a14 a15 a16 a17 a18 a19 a20 : Nat → Int32} {fl : Bool} {ad L S l : Nat} {sh sl : Nat → Nat} {si N : Nat → Nat → Nat} (hW : la_WL L S sh sl si N) (hR : la_RL fl ad L S sh sl si N a4 a5 a6 a7 a8) (hl : l < L)
    (H : ∀ fr b16 b17, (∀ i, i < sl (sh l) → b16 i = nI (la_I fl ad (la_item sh si N l i))) → post (f0, f1, f2, f3, f4, f5, f6, fr, a1, a2, a3, a4, a5, a6, a7, a8, a9, a10, a11, a12, a13, a14, a15, b16, b17, a18, a19, a20)) : wpX_readLine post (f0, f1, f2, f3, f4, f5, f6, f7, a1, a2, a3, a4, a5, a6, a7, a8, a9, a10, a11, a12, a13, a14, a15, a16, a17, a18, a19, a20) (nI l) := by
  have hW' := hW
  have hR' := hR
  obtain ⟨w1, w2, w3, w4, w5, w6⟩ := hW
  obtain ⟨r1, r2, r3, r4⟩ := hR
  have hs := w3 l hl
  have h8 := (w4 _ hs).2
  unfold wpX_readLine
  refine ⟨pk_in l 60 (by omega), ?_⟩
  rw [nI_clamp (by omega)]
  refine nm_r (r1 l hl) ?_
  refine pk_loop (fun k i b => wX_readLine_9 post (nI l) (nI (sh l)) f0 f1 f2 f3 f4 f5 f6 f7 k (nI i) a1 a2 a3 a4 a5 a6 a7 a8 a9 a10 a11 a12 a13 a14 a15 a16 b a18 a19 a20) (fun i b => ∀ j, j < i → b j = 0) 8 0 a17 (by omega) (fun j hj => absurd hj (by omega)) ?_ ?_
  rotate_left 1
  · intro k i b hi hI hw
    refine pk_le 8 i (fun z => absurd z (by omega)) (fun _ => ⟨pk_in i 8 hi, nm_e (nm_r (nI_1 i) (hw _ ?_))⟩)
    rw [nI_clamp (by omega)]
    intro j hj
    by_cases e : j = i
    · rw [e, pk_us]
    · rw [pk_un e]
      exact hI j (by omega)
  intro k b hI
  refine pk_le 8 8 (fun _ => ?_) (fun z => absurd z (by omega))
  refine pk_loop (σ := Int32 × (Nat → Int32)) (fun k i s => wX_readLine_30 post (nI l) (nI (sh l)) k (nI i) f0 f1 f2 f3 f4 f5 f6 s.1 a1 a2 a3 a4 a5 a6 a7 a8 a9 a10 a11 a12 a13 a14 a15 a16 s.2 a18 a19 a20) (fun i s => la_NA ad sh sl si N i (sh l) s.2) (l + 1) 0 (f7, b) (by omega) (la_NA_0 h8 hI) ?_ ?_
  · intro k s hN
    refine pk_lt l (l + 1) (fun _ => ?_) (fun z => absurd z (by omega))
    refine pk_loop (fun k i c => wX_readLine_59 post (nI (sh l)) f0 f1 f2 f3 f4 f5 f6 s.1 k (nI i) a1 a2 a3 a4 a5 a6 a7 a8 a9 a10 a11 a12 a13 a14 a15 c s.2 a18 a19 a20) (fun i c => ∀ j, j < i → c j = nI (la_I fl ad (la_item sh si N l j))) (sl (sh l)) 0 a16 (by omega) (fun j hj => absurd hj (by omega)) ?_ ?_
    · intro k c hc
      refine ⟨pk_in (sh l) 60 (by omega), ?_⟩
      rw [nI_clamp (by omega), r2 _ hs]
      exact pk_le (sl (sh l)) (sl (sh l)) (fun _ => H _ _ _ hc) (fun z => absurd z (by omega))
    · intro k i c hi hc hw
      refine ⟨pk_in (sh l) 60 (by omega), ?_⟩
      rw [nI_clamp (by omega), r2 _ hs]
      refine pk_le (sl (sh l)) i (fun z => absurd z (by omega)) (fun _ => ⟨pk_in (8 * sh l + i) 480 (by omega) (hx := la_ix (sh l) i), ?_⟩)
      rw [la_ix, nI_clamp (by omega)]
      refine nm_r (r3 _ i hs hi) ?_
      have ok := w5 _ i hs hi
      by_cases e : si (sh l) i = 1000
      · refine br_t ((la_8 ok rfl).mpr e) ⟨pk_in i 8 (by omega), pk_in i 8 (by omega), nm_e (nm_r (nI_1 i) (hw _ ?_))⟩
        rw [nI_clamp (by omega)]
        intro j hj
        by_cases ej : j = i
        · have h1 : s.2 i = nI (N l i + ad) := la_NA_at rfl hN hi e
          rw [ej, pk_us, h1, show (1000 : Int32) = nI 1000 from rfl, nI_add]
          unfold la_item
          rw [if_pos e, la_I_n (by omega), Nat.add_assoc]
        · rw [pk_un ej]
          exact hc j (by omega)
      · refine br_f (fun z => e ((la_8 ok rfl).mp z)) ⟨pk_in i 8 (by omega), nm_e (nm_r (nI_1 i) (hw _ ?_))⟩
        rw [nI_clamp (by omega)]
        intro j hj
        by_cases ej : j = i
        · rw [ej, pk_us]
          unfold la_item
          rw [if_neg e]
          have o : si (sh l) i < 24 := by
            unfold la_si at ok
            omega
          rw [la_I_w o, la_S_w o]
        · rw [pk_un ej]
          exact hc j (by omega)
  · intro k i s hi hN hw
    refine pk_lt l i (fun z => absurd z (by omega)) (fun _ => ⟨pk_in i 60 (by omega), ?_⟩)
    rw [nI_clamp (by omega), r1 i (by omega)]
    refine pk_eq (sh i) (sh l) (fun z => ?_) (fun z => nm_r (nI_1 i) (hw s (la_NA_skip z hN))) (ha := by have := w3 i (by omega); omega)
    exact la_al hW' hR' (by omega) z hN (fun fr b17 hb => nm_r (nI_1 i) (hw (fr, b17) hb))
end
section
/-! ===== the pattern: places in it, shapes and lines that fit ===== -/
theorem la_og (pc : Nat) (hpc : pc ≤ 8) (gp : Nat → Prop) (w : Int32) : ∃ r : Int32, ∀ (post : Int32 → Prop) (f0 f1 f2 f3 f4 f5 : Int32) (f6 : Int64) (f7 : Int32) (a1 a2 a3 a4 a5 a6 a7 a8 : Nat → Int32) (a9 : Nat → Int64) (a10 : Nat → Int32) (a11 : Nat → Int64) (a12 a13 a14 a15 a16 a17 a18 a19 a20 : Nat → Int32), f1 = nI pc → (∀ k, k < pc → (a2 k = 2002 ↔ gp k)) → post r → wpX_overGaps post (f0, f1, f2, f3, f4, f5, f6, f7, a1, a2, a3, a4, a5, a6, a7, a8, a9, a10, a11, a12, a13, a14, a15, a16, a17, a18, a19, a20) w := by
  have key : ∀ k i (w : Int32), i + k = pc → ∃ r : Int32, ∀ (post : Int32 → Prop) (f0 f1 f2 f3 f4 f5 : Int32) (f6 : Int64) (f7 : Int32) (a1 a2 a3 a4 a5 a6 a7 a8 : Nat → Int32) (a9 : Nat → Int64) (a10 : Nat → Int32) (a11 : Nat → Int64) (a12 a13 a14 a15 a16 a17 a18 a19 a20 : Nat → Int32), f1 = nI pc → (∀ k, k < pc → (a2 k = 2002 ↔ gp k)) → post r → wX_overGaps_4 post f0 f1 f2 f3 f4 f5 f6 f7 a1 a2 a3 a4 a5 a6 a7 a8 a9 a10 a11 a12 a13 a14 a15 a16 a17 a18 a19 a20 (k + 1) w (nI i) := by
    intro k
    induction k with
    | zero =>
      intro i w hi
      refine ⟨w, ?_⟩
      intro post f0 f1 f2 f3 f4 f5 f6 f7 a1 a2 a3 a4 a5 a6 a7 a8 a9 a10 a11 a12 a13 a14 a15 a16 a17 a18 a19 a20 h1 hg h
      subst h1
      exact pk_le pc i (fun _ => h) (fun z => absurd z (by omega))
    | succ k ih =>
      intro i w hi
      by_cases c : ((w >>> (nI i &&& 31)) &&& 1) = 1
      · by_cases g : gp i
        · obtain ⟨r, hr⟩ := ih (i + 1) (w ||| ((1 : Int32) <<< ((nI i + 1) &&& 31))) (by omega)
          refine ⟨r, ?_⟩
          intro post f0 f1 f2 f3 f4 f5 f6 f7 a1 a2 a3 a4 a5 a6 a7 a8 a9 a10 a11 a12 a13 a14 a15 a16 a17 a18 a19 a20 h1 hg h
          have hn := hr post f0 f1 f2 f3 f4 f5 f6 f7 a1 a2 a3 a4 a5 a6 a7 a8 a9 a10 a11 a12 a13 a14 a15 a16 a17 a18 a19 a20 h1 hg h
          subst h1
          refine pk_le pc i (fun z => absurd z (by omega)) (fun _ => br_t c ⟨pk_in i 8 (by omega), ?_⟩)
          rw [nI_clamp (by omega)]
          exact br_t ((hg i (by omega)).mpr g) (nm_e (nm_r (nI_1 i) hn))
        · obtain ⟨r, hr⟩ := ih (i + 1) (w ||| 0) (by omega)
          refine ⟨r, ?_⟩
          intro post f0 f1 f2 f3 f4 f5 f6 f7 a1 a2 a3 a4 a5 a6 a7 a8 a9 a10 a11 a12 a13 a14 a15 a16 a17 a18 a19 a20 h1 hg h
          have hn := hr post f0 f1 f2 f3 f4 f5 f6 f7 a1 a2 a3 a4 a5 a6 a7 a8 a9 a10 a11 a12 a13 a14 a15 a16 a17 a18 a19 a20 h1 hg h
          subst h1
          refine pk_le pc i (fun z => absurd z (by omega)) (fun _ => br_t c ⟨pk_in i 8 (by omega), ?_⟩)
          rw [nI_clamp (by omega)]
          exact br_f (fun z => g ((hg i (by omega)).mp z)) (nm_e (nm_r (nI_1 i) hn))
      · obtain ⟨r, hr⟩ := ih (i + 1) (w ||| 0) (by omega)
        refine ⟨r, ?_⟩
        intro post f0 f1 f2 f3 f4 f5 f6 f7 a1 a2 a3 a4 a5 a6 a7 a8 a9 a10 a11 a12 a13 a14 a15 a16 a17 a18 a19 a20 h1 hg h
        have hn := hr post f0 f1 f2 f3 f4 f5 f6 f7 a1 a2 a3 a4 a5 a6 a7 a8 a9 a10 a11 a12 a13 a14 a15 a16 a17 a18 a19 a20 h1 hg h
        subst h1
        exact pk_le pc i (fun z => absurd z (by omega)) (fun _ => br_f c (nm_e (nm_r (nI_1 i) hn)))
  obtain ⟨r, hr⟩ := key pc 0 w (by omega)
  exact ⟨r, fun post f0 f1 f2 f3 f4 f5 f6 f7 a1 a2 a3 a4 a5 a6 a7 a8 a9 a10 a11 a12 a13 a14 a15 a16 a17 a18 a19 a20 h1 hg h => ⟨pc + 1, hr post f0 f1 f2 f3 f4 f5 f6 f7 a1 a2 a3 a4 a5 a6 a7 a8 a9 a10 a11 a12 a13 a14 a15 a16 a17 a18 a19 a20 h1 hg h⟩⟩
theorem la_after (pc : Nat) (hpc : pc ≤ 8) (gp tk : Nat → Prop) (w : Int32) : ∃ r : Int32, ∀ (post : Int32 → Prop) (it b : Int32) (f0 f1 f2 f3 f4 f5 : Int32) (f6 : Int64) (f7 : Int32) (a1 a2 a3 a4 a5 a6 a7 a8 : Nat → Int32) (a9 : Nat → Int64) (a10 : Nat → Int32) (a11 : Nat → Int64) (a12 a13 a14 a15 a16 a17 a18 a19 a20 : Nat → Int32), f1 = nI pc → (∀ k, k < pc → (a2 k = 2002 ↔ gp k)) →
    (∀ k, k < pc → ¬ gp k → ∀ P : Int32 → Prop, (tk k → P 1) → (¬ tk k → P 0) → wpX_takes P () (a2 k) it b) → post r → wpX_after post (f0, f1, f2, f3, f4, f5, f6, f7, a1, a2, a3, a4, a5, a6, a7, a8, a9, a10, a11, a12, a13, a14, a15, a16, a17, a18, a19, a20) w it b := by
  have key : ∀ k i (t : Int32), i + k = pc → ∃ r : Int32, ∀ (post : Int32 → Prop) (it b : Int32) (f0 f1 f2 f3 f4 f5 : Int32) (f6 : Int64) (f7 : Int32) (a1 a2 a3 a4 a5 a6 a7 a8 : Nat → Int32) (a9 : Nat → Int64) (a10 : Nat → Int32) (a11 : Nat → Int64) (a12 a13 a14 a15 a16 a17 a18 a19 a20 : Nat → Int32), f1 = nI pc → (∀ k, k < pc → (a2 k = 2002 ↔ gp k)) →
      (∀ k, k < pc → ¬ gp k → ∀ P : Int32 → Prop, (tk k → P 1) → (¬ tk k → P 0) → wpX_takes P () (a2 k) it b) → post r → wX_after_6 post w it b f0 f1 f2 f3 f4 f5 f6 f7 a1 a2 a3 a4 a5 a6 a7 a8 a9 a10 a11 a12 a13 a14 a15 a16 a17 a18 a19 a20 (k + 1) t (nI i) := by
    intro k
    induction k with
    | zero =>
      intro i t hi
      obtain ⟨r, hr⟩ := la_og pc hpc gp t
      refine ⟨r, ?_⟩
      intro post it b f0 f1 f2 f3 f4 f5 f6 f7 a1 a2 a3 a4 a5 a6 a7 a8 a9 a10 a11 a12 a13 a14 a15 a16 a17 a18 a19 a20 h1 hg ht h
      have hn := hr (fun r_2 => post r_2) f0 f1 f2 f3 f4 f5 f6 f7 a1 a2 a3 a4 a5 a6 a7 a8 a9 a10 a11 a12 a13 a14 a15 a16 a17 a18 a19 a20 h1 hg h
      subst h1
      exact pk_le pc i (fun _ => hn) (fun z => absurd z (by omega))
    | succ k ih =>
      intro i t hi
      by_cases c : ((w >>> (nI i &&& 31)) &&& 1) = 1
      · by_cases g : gp i
        · obtain ⟨r, hr⟩ := ih (i + 1) (t ||| ((1 : Int32) <<< (nI i &&& 31))) (by omega)
          refine ⟨r, ?_⟩
          intro post it b f0 f1 f2 f3 f4 f5 f6 f7 a1 a2 a3 a4 a5 a6 a7 a8 a9 a10 a11 a12 a13 a14 a15 a16 a17 a18 a19 a20 h1 hg ht h
          have hn := hr post it b f0 f1 f2 f3 f4 f5 f6 f7 a1 a2 a3 a4 a5 a6 a7 a8 a9 a10 a11 a12 a13 a14 a15 a16 a17 a18 a19 a20 h1 hg ht h
          subst h1
          refine pk_le pc i (fun z => absurd z (by omega)) (fun _ => br_t c ⟨pk_in i 8 (by omega), ?_⟩)
          rw [nI_clamp (by omega)]
          exact br_t ((hg i (by omega)).mpr g) (nm_e (nm_r (nI_1 i) hn))
        · by_cases y : tk i
          · obtain ⟨r, hr⟩ := ih (i + 1) (t ||| ((1 : Int32) <<< ((nI i + 1) &&& 31))) (by omega)
            refine ⟨r, ?_⟩
            intro post it b f0 f1 f2 f3 f4 f5 f6 f7 a1 a2 a3 a4 a5 a6 a7 a8 a9 a10 a11 a12 a13 a14 a15 a16 a17 a18 a19 a20 h1 hg ht h
            have hn := hr post it b f0 f1 f2 f3 f4 f5 f6 f7 a1 a2 a3 a4 a5 a6 a7 a8 a9 a10 a11 a12 a13 a14 a15 a16 a17 a18 a19 a20 h1 hg ht h
            subst h1
            refine pk_le pc i (fun z => absurd z (by omega)) (fun _ => br_t c ⟨pk_in i 8 (by omega), ?_⟩)
            rw [nI_clamp (by omega)]
            exact br_f (fun z => g ((hg i (by omega)).mp z)) ⟨pk_in i 8 (by omega), ht i (by omega) g _ (fun _ => br_f (by decide) (nm_e (nm_r (nI_1 i) hn))) (fun z => absurd y z)⟩
          · obtain ⟨r, hr⟩ := ih (i + 1) (t ||| 0) (by omega)
            refine ⟨r, ?_⟩
            intro post it b f0 f1 f2 f3 f4 f5 f6 f7 a1 a2 a3 a4 a5 a6 a7 a8 a9 a10 a11 a12 a13 a14 a15 a16 a17 a18 a19 a20 h1 hg ht h
            have hn := hr post it b f0 f1 f2 f3 f4 f5 f6 f7 a1 a2 a3 a4 a5 a6 a7 a8 a9 a10 a11 a12 a13 a14 a15 a16 a17 a18 a19 a20 h1 hg ht h
            subst h1
            refine pk_le pc i (fun z => absurd z (by omega)) (fun _ => br_t c ⟨pk_in i 8 (by omega), ?_⟩)
            rw [nI_clamp (by omega)]
            exact br_f (fun z => g ((hg i (by omega)).mp z)) ⟨pk_in i 8 (by omega), ht i (by omega) g _ (fun z => absurd z y) (fun _ => br_t (by decide) (nm_e (nm_r (nI_1 i) hn)))⟩
      · obtain ⟨r, hr⟩ := ih (i + 1) t (by omega)
        refine ⟨r, ?_⟩
        intro post it b f0 f1 f2 f3 f4 f5 f6 f7 a1 a2 a3 a4 a5 a6 a7 a8 a9 a10 a11 a12 a13 a14 a15 a16 a17 a18 a19 a20 h1 hg ht h
        have hn := hr post it b f0 f1 f2 f3 f4 f5 f6 f7 a1 a2 a3 a4 a5 a6 a7 a8 a9 a10 a11 a12 a13 a14 a15 a16 a17 a18 a19 a20 h1 hg ht h
        subst h1
        exact pk_le pc i (fun z => absurd z (by omega)) (fun _ => br_f c (nm_r (nI_1 i) hn))
  obtain ⟨r, hr⟩ := key pc 0 0 (by omega)
  exact ⟨r, fun post it b f0 f1 f2 f3 f4 f5 f6 f7 a1 a2 a3 a4 a5 a6 a7 a8 a9 a10 a11 a12 a13 a14 a15 a16 a17 a18 a19 a20 h1 hg ht h => ⟨pc + 1, hr post it b f0 f1 f2 f3 f4 f5 f6 f7 a1 a2 a3 a4 a5 a6 a7 a8 a9 a10 a11 a12 a13 a14 a15 a16 a17 a18 a19 a20 h1 hg ht h⟩⟩
theorem la_smf (pc : Nat) (hpc : pc ≤ 8) (gp : Nat → Prop) (s n : Nat) (hs : s < 60) (hn8 : n ≤ 8) (tk : Nat → Nat → Prop) : ∃ r : Int32, ∀ (post : Int32 → Prop) (f0 f1 f2 f3 f4 f5 : Int32) (f6 : Int64) (f7 : Int32) (a1 a2 a3 a4 a5 a6 a7 a8 : Nat → Int32) (a9 : Nat → Int64) (a10 : Nat → Int32) (a11 : Nat → Int64) (a12 a13 a14 a15 a16 a17 a18 a19 a20 : Nat → Int32), f1 = nI pc → (∀ k, k < pc → (a2 k = 2002 ↔ gp k)) → a7 s = nI n →
    (∀ i, i < n → ∀ k, k < pc → ¬ gp k → ∀ P : Int32 → Prop, (tk i k → P 1) → (¬ tk i k → P 0) → wpX_takes P () (a2 k) (a8 (8 * s + i)) (if a8 (8 * s + i) = 1000 then 1 else 0)) → post r → wpX_shapeMayFit post (f0, f1, f2, f3, f4, f5, f6, f7, a1, a2, a3, a4, a5, a6, a7, a8, a9, a10, a11, a12, a13, a14, a15, a16, a17, a18, a19, a20) (nI s) := by
  have key : ∀ k i (w : Int32), i + k = n → ∃ r : Int32, ∀ (post : Int32 → Prop) (f0 f1 f2 f3 f4 f5 : Int32) (f6 : Int64) (f7 : Int32) (a1 a2 a3 a4 a5 a6 a7 a8 : Nat → Int32) (a9 : Nat → Int64) (a10 : Nat → Int32) (a11 : Nat → Int64) (a12 a13 a14 a15 a16 a17 a18 a19 a20 : Nat → Int32), f1 = nI pc → (∀ k, k < pc → (a2 k = 2002 ↔ gp k)) → a7 s = nI n →
      (∀ i, i < n → ∀ k, k < pc → ¬ gp k → ∀ P : Int32 → Prop, (tk i k → P 1) → (¬ tk i k → P 0) → wpX_takes P () (a2 k) (a8 (8 * s + i)) (if a8 (8 * s + i) = 1000 then 1 else 0)) → post r → wX_shapeMayFit_8 post (nI s) f0 f1 f2 f3 f4 f5 f6 f7 a1 a2 a3 a4 a5 a6 a7 a8 a9 a10 a11 a12 a13 a14 a15 a16 a17 a18 a19 a20 (k + 1) w (nI i) := by
    intro k
    induction k with
    | zero =>
      intro i w hi
      by_cases c : ((w >>> (nI pc &&& 31)) &&& 1) = 1
      · refine ⟨1, ?_⟩
        intro post f0 f1 f2 f3 f4 f5 f6 f7 a1 a2 a3 a4 a5 a6 a7 a8 a9 a10 a11 a12 a13 a14 a15 a16 a17 a18 a19 a20 h1 hg h7 ht h
        subst h1
        refine ⟨pk_in s 60 hs, ?_⟩
        rw [nI_clamp (by omega), h7]
        exact pk_le n i (fun _ => br_t c h) (fun z => absurd z (by omega))
      · refine ⟨0, ?_⟩
        intro post f0 f1 f2 f3 f4 f5 f6 f7 a1 a2 a3 a4 a5 a6 a7 a8 a9 a10 a11 a12 a13 a14 a15 a16 a17 a18 a19 a20 h1 hg h7 ht h
        subst h1
        refine ⟨pk_in s 60 hs, ?_⟩
        rw [nI_clamp (by omega), h7]
        exact pk_le n i (fun _ => br_f c h) (fun z => absurd z (by omega))
    | succ k ih =>
      intro i w hi
      obtain ⟨r1, hr1⟩ := la_after pc hpc gp (tk i) w
      obtain ⟨r, hr⟩ := ih (i + 1) r1 (by omega)
      refine ⟨r, ?_⟩
      intro post f0 f1 f2 f3 f4 f5 f6 f7 a1 a2 a3 a4 a5 a6 a7 a8 a9 a10 a11 a12 a13 a14 a15 a16 a17 a18 a19 a20 h1 hg h7 ht h
      have hn := hr post f0 f1 f2 f3 f4 f5 f6 f7 a1 a2 a3 a4 a5 a6 a7 a8 a9 a10 a11 a12 a13 a14 a15 a16 a17 a18 a19 a20 h1 hg h7 ht h
      refine ⟨pk_in s 60 hs, ?_⟩
      rw [nI_clamp (by omega), h7]
      refine pk_le n i (fun z => absurd z (by omega)) (fun _ => ⟨pk_in (8 * s + i) 480 (by omega) (hx := la_ix s i), ?_⟩)
      rw [la_ix, nI_clamp (by omega)]
      refine nm_e (br_c (fun c => ?_) (fun c => ?_))
      · have ht' := ht i (by omega)
        rw [if_pos c] at ht'
        unfold wX_shapeMayFit_48
        exact hr1 _ _ _ f0 f1 f2 f3 f4 f5 f6 f7 a1 a2 a3 a4 a5 a6 a7 a8 a9 a10 a11 a12 a13 a14 a15 a16 a17 a18 a19 a20 h1 hg ht' (nm_r (nI_1 i) hn)
      · have ht' := ht i (by omega)
        rw [if_neg c] at ht'
        unfold wX_shapeMayFit_48
        exact hr1 _ _ _ f0 f1 f2 f3 f4 f5 f6 f7 a1 a2 a3 a4 a5 a6 a7 a8 a9 a10 a11 a12 a13 a14 a15 a16 a17 a18 a19 a20 h1 hg ht' (nm_r (nI_1 i) hn)
  obtain ⟨r0, hr0⟩ := la_og pc hpc gp 1
  obtain ⟨r, hr⟩ := key n 0 r0 (by omega)
  exact ⟨r, fun post f0 f1 f2 f3 f4 f5 f6 f7 a1 a2 a3 a4 a5 a6 a7 a8 a9 a10 a11 a12 a13 a14 a15 a16 a17 a18 a19 a20 h1 hg h7 ht h => hr0 _ f0 f1 f2 f3 f4 f5 f6 f7 a1 a2 a3 a4 a5 a6 a7 a8 a9 a10 a11 a12 a13 a14 a15 a16 a17 a18 a19 a20 h1 hg ⟨n + 1, hr post f0 f1 f2 f3 f4 f5 f6 f7 a1 a2 a3 a4 a5 a6 a7 a8 a9 a10 a11 a12 a13 a14 a15 a16 a17 a18 a19 a20 h1 hg h7 ht h⟩⟩
theorem la_lf (pc : Nat) (hpc : pc ≤ 8) (gp : Nat → Prop) (s n : Nat) (hs : s < 60) (hn8 : n ≤ 8) (tk : Nat → Nat → Prop) : ∃ r : Int32, ∀ (post : Int32 → Prop) (it : Nat → Int32) (f0 f1 f2 f3 f4 f5 : Int32) (f6 : Int64) (f7 : Int32) (a1 a2 a3 a4 a5 a6 a7 a8 : Nat → Int32) (a9 : Nat → Int64) (a10 : Nat → Int32) (a11 : Nat → Int64) (a12 a13 a14 a15 a16 a17 a18 a19 a20 : Nat → Int32), f1 = nI pc → (∀ k, k < pc → (a2 k = 2002 ↔ gp k)) → a7 s = nI n →
    (∀ i, i < n → (a8 (8 * s + i) = 1000 → it i = 1000 + a17 i) ∧ (¬ a8 (8 * s + i) = 1000 → it i = a8 (8 * s + i))) →
    (∀ i, i < n → ∀ k, k < pc → ¬ gp k → ∀ P : Int32 → Prop, (tk i k → P 1) → (¬ tk i k → P 0) → wpX_takes P () (a2 k) (it i) 0) → post r → wpX_lineFits post (f0, f1, f2, f3, f4, f5, f6, f7, a1, a2, a3, a4, a5, a6, a7, a8, a9, a10, a11, a12, a13, a14, a15, a16, a17, a18, a19, a20) (nI s) := by
  have key : ∀ k i (w : Int32), i + k = n → ∃ r : Int32, ∀ (post : Int32 → Prop) (it : Nat → Int32) (f0 f1 f2 f3 f4 f5 : Int32) (f6 : Int64) (f7 : Int32) (a1 a2 a3 a4 a5 a6 a7 a8 : Nat → Int32) (a9 : Nat → Int64) (a10 : Nat → Int32) (a11 : Nat → Int64) (a12 a13 a14 a15 a16 a17 a18 a19 a20 : Nat → Int32), f1 = nI pc → (∀ k, k < pc → (a2 k = 2002 ↔ gp k)) → a7 s = nI n →
      (∀ i, i < n → (a8 (8 * s + i) = 1000 → it i = 1000 + a17 i) ∧ (¬ a8 (8 * s + i) = 1000 → it i = a8 (8 * s + i))) →
      (∀ i, i < n → ∀ k, k < pc → ¬ gp k → ∀ P : Int32 → Prop, (tk i k → P 1) → (¬ tk i k → P 0) → wpX_takes P () (a2 k) (it i) 0) → post r → wX_lineFits_8 post (nI s) f0 f1 f2 f3 f4 f5 f6 f7 a1 a2 a3 a4 a5 a6 a7 a8 a9 a10 a11 a12 a13 a14 a15 a16 a17 a18 a19 a20 (k + 1) w (nI i) := by
    intro k
    induction k with
    | zero =>
      intro i w hi
      by_cases c : ((w >>> (nI pc &&& 31)) &&& 1) = 1
      · refine ⟨1, ?_⟩
        intro post it f0 f1 f2 f3 f4 f5 f6 f7 a1 a2 a3 a4 a5 a6 a7 a8 a9 a10 a11 a12 a13 a14 a15 a16 a17 a18 a19 a20 h1 hg h7 hv ht h
        subst h1
        refine ⟨pk_in s 60 hs, ?_⟩
        rw [nI_clamp (by omega), h7]
        exact pk_le n i (fun _ => br_t c h) (fun z => absurd z (by omega))
      · refine ⟨0, ?_⟩
        intro post it f0 f1 f2 f3 f4 f5 f6 f7 a1 a2 a3 a4 a5 a6 a7 a8 a9 a10 a11 a12 a13 a14 a15 a16 a17 a18 a19 a20 h1 hg h7 hv ht h
        subst h1
        refine ⟨pk_in s 60 hs, ?_⟩
        rw [nI_clamp (by omega), h7]
        exact pk_le n i (fun _ => br_f c h) (fun z => absurd z (by omega))
    | succ k ih =>
      intro i w hi
      obtain ⟨r1, hr1⟩ := la_after pc hpc gp (tk i) w
      obtain ⟨r, hr⟩ := ih (i + 1) r1 (by omega)
      refine ⟨r, ?_⟩
      intro post it f0 f1 f2 f3 f4 f5 f6 f7 a1 a2 a3 a4 a5 a6 a7 a8 a9 a10 a11 a12 a13 a14 a15 a16 a17 a18 a19 a20 h1 hg h7 hv ht h
      have hn := hr post it f0 f1 f2 f3 f4 f5 f6 f7 a1 a2 a3 a4 a5 a6 a7 a8 a9 a10 a11 a12 a13 a14 a15 a16 a17 a18 a19 a20 h1 hg h7 hv ht h
      have ht' := ht i (by omega)
      refine ⟨pk_in s 60 hs, ?_⟩
      rw [nI_clamp (by omega), h7]
      refine pk_le n i (fun z => absurd z (by omega)) (fun _ => ⟨pk_in (8 * s + i) 480 (by omega) (hx := la_ix s i), ?_⟩)
      rw [la_ix, nI_clamp (by omega)]
      refine nm_e (br_c (fun c => ⟨pk_in i 8 (by omega), ?_⟩) (fun c => ?_))
      · rw [(hv i (by omega)).1 c] at ht'
        rw [nI_clamp (by omega)]
        unfold wX_lineFits_56
        exact hr1 _ _ _ f0 f1 f2 f3 f4 f5 f6 f7 a1 a2 a3 a4 a5 a6 a7 a8 a9 a10 a11 a12 a13 a14 a15 a16 a17 a18 a19 a20 h1 hg ht' (nm_r (nI_1 i) hn)
      · rw [(hv i (by omega)).2 c] at ht'
        unfold wX_lineFits_56
        exact hr1 _ _ _ f0 f1 f2 f3 f4 f5 f6 f7 a1 a2 a3 a4 a5 a6 a7 a8 a9 a10 a11 a12 a13 a14 a15 a16 a17 a18 a19 a20 h1 hg ht' (nm_r (nI_1 i) hn)
  obtain ⟨r0, hr0⟩ := la_og pc hpc gp 1
  obtain ⟨r, hr⟩ := key n 0 r0 (by omega)
  exact ⟨r, fun post it f0 f1 f2 f3 f4 f5 f6 f7 a1 a2 a3 a4 a5 a6 a7 a8 a9 a10 a11 a12 a13 a14 a15 a16 a17 a18 a19 a20 h1 hg h7 hv ht h => hr0 _ f0 f1 f2 f3 f4 f5 f6 f7 a1 a2 a3 a4 a5 a6 a7 a8 a9 a10 a11 a12 a13 a14 a15 a16 a17 a18 a19 a20 h1 hg ⟨n + 1, hr post it f0 f1 f2 f3 f4 f5 f6 f7 a1 a2 a3 a4 a5 a6 a7 a8 a9 a10 a11 a12 a13 a14 a15 a16 a17 a18 a19 a20 h1 hg h7 hv ht h⟩⟩
/-- the parts of the pattern stand in a2 under the view -/
def la_RP (fl : Bool) (ad pc : Nat) (pt : Nat → Nat) (a2 : Nat → Int32) : Prop := ∀ k, k < pc → a2 k = nI (la_P fl ad (pt k))
def la_WP (pc : Nat) (pt : Nat → Nat) : Prop := pc ≤ 8 ∧ ∀ k, k < pc → la_pa (pt k)
theorem la_gap {fl : Bool} {ad pc : Nat} {pt : Nat → Nat} {a2 : Nat → Int32} (ha : ad ≤ 63) (hp : la_WP pc pt) (h : la_RP fl ad pc pt a2) : ∀ k, k < pc → (a2 k = 2002 ↔ pt k = 2002) := by
  intro k hk
  have := la_P_lt (fl := fl) ha (hp.2 k hk)
  rw [h k hk, show (2002 : Int32) = nI 2002 from rfl, nI_eq (by omega) (by omega)]
  exact la_P_gap ha (hp.2 k hk)
theorem la_nn (pc : Nat) (pt : Nat → Nat) (hp : la_WP pc pt) : ∃ r : Int32, ∀ (post : Int32 → Prop) (fl : Bool) (ad : Nat) (f0 f1 f2 f3 f4 f5 : Int32) (f6 : Int64) (f7 : Int32) (a1 a2 a3 a4 a5 a6 a7 a8 : Nat → Int32) (a9 : Nat → Int64) (a10 : Nat → Int32) (a11 : Nat → Int64) (a12 a13 a14 a15 a16 a17 a18 a19 a20 : Nat → Int32), ad ≤ 63 → f1 = nI pc → la_RP fl ad pc pt a2 → post r → wpX_namesNumbers post (f0, f1, f2, f3, f4, f5, f6, f7, a1, a2, a3, a4, a5, a6, a7, a8, a9, a10, a11, a12, a13, a14, a15, a16, a17, a18, a19, a20) := by
  have key : ∀ k i, i + k = pc → ∃ r : Int32, ∀ (post : Int32 → Prop) (fl : Bool) (ad : Nat) (f0 f1 f2 f3 f4 f5 : Int32) (f6 : Int64) (f7 : Int32) (a1 a2 a3 a4 a5 a6 a7 a8 : Nat → Int32) (a9 : Nat → Int64) (a10 : Nat → Int32) (a11 : Nat → Int64) (a12 a13 a14 a15 a16 a17 a18 a19 a20 : Nat → Int32), ad ≤ 63 → f1 = nI pc → la_RP fl ad pc pt a2 → post r → wX_namesNumbers_2 post f0 f1 f2 f3 f4 f5 f6 f7 a1 a2 a3 a4 a5 a6 a7 a8 a9 a10 a11 a12 a13 a14 a15 a16 a17 a18 a19 a20 (k + 1) (nI i) := by
    have hp8 := hp.1
    intro k
    induction k with
    | zero =>
      intro i hi
      refine ⟨0, ?_⟩
      intro post fl ad f0 f1 f2 f3 f4 f5 f6 f7 a1 a2 a3 a4 a5 a6 a7 a8 a9 a10 a11 a12 a13 a14 a15 a16 a17 a18 a19 a20 ha h1 h2 h
      subst h1
      exact pk_le pc i (fun _ => h) (fun z => absurd z (by omega))
    | succ k ih =>
      intro i hi
      have hpi := hp.2 i (by omega)
      by_cases c : (1000 ≤ pt i ∧ pt i < 2000) ∨ 3000 ≤ pt i
      · refine ⟨1, ?_⟩
        intro post fl ad f0 f1 f2 f3 f4 f5 f6 f7 a1 a2 a3 a4 a5 a6 a7 a8 a9 a10 a11 a12 a13 a14 a15 a16 a17 a18 a19 a20 ha h1 h2 h
        have hlt := la_P_lt (fl := fl) ha hpi
        subst h1
        refine pk_le pc i (fun z => absurd z (by omega)) (fun _ => ⟨pk_in i 8 (by omega), ?_⟩)
        rw [nI_clamp (by omega), h2 i (by omega)]
        refine la_isNum _ (by omega) (fun _ _ => br_f (by decide) h) (fun z => br_t (by decide) ⟨pk_in i 8 (by omega), ?_⟩)
        refine pk_lt (la_P fl ad (pt i)) 3000 (fun z2 => ?_) (fun _ => h)
        exfalso
        rcases c with c | c
        · unfold la_pa la_it at hpi
          rw [la_P_lo c.2, la_I_n (by omega)] at z
          omega
        · rw [la_P_hi c] at z2
          omega
      · obtain ⟨r, hr⟩ := ih (i + 1) (by omega)
        refine ⟨r, ?_⟩
        intro post fl ad f0 f1 f2 f3 f4 f5 f6 f7 a1 a2 a3 a4 a5 a6 a7 a8 a9 a10 a11 a12 a13 a14 a15 a16 a17 a18 a19 a20 ha h1 h2 h
        have hn := hr post fl ad f0 f1 f2 f3 f4 f5 f6 f7 a1 a2 a3 a4 a5 a6 a7 a8 a9 a10 a11 a12 a13 a14 a15 a16 a17 a18 a19 a20 ha h1 h2 h
        have hlt := la_P_lt (fl := fl) ha hpi
        have hno : ¬ (1000 ≤ la_P fl ad (pt i) ∧ la_P fl ad (pt i) < 2000) ∧ la_P fl ad (pt i) < 3000 := by
          unfold la_pa la_it at hpi
          rcases Nat.lt_or_ge (pt i) 24 with a | a
          · have := la_w_lt (fl := fl) a
            rw [la_P_lo (by omega), la_I_w a]
            omega
          · rw [la_P_mid (by omega) (by omega)]
            omega
        subst h1
        refine pk_le pc i (fun z => absurd z (by omega)) (fun _ => ⟨pk_in i 8 (by omega), ?_⟩)
        rw [nI_clamp (by omega), h2 i (by omega)]
        refine la_isNum _ (by omega) (fun z1 z2 => absurd ⟨z1, z2⟩ hno.1) (fun z => br_t (by decide) ⟨pk_in i 8 (by omega), ?_⟩)
        exact pk_lt (la_P fl ad (pt i)) 3000 (fun z2 => nm_r (nI_1 i) hn) (fun z => absurd hno.2 (by omega))
  obtain ⟨r, hr⟩ := key pc 0 (by omega)
  exact ⟨r, fun post fl ad f0 f1 f2 f3 f4 f5 f6 f7 a1 a2 a3 a4 a5 a6 a7 a8 a9 a10 a11 a12 a13 a14 a15 a16 a17 a18 a19 a20 ha h1 h2 h => ⟨pc + 1, hr post fl ad f0 f1 f2 f3 f4 f5 f6 f7 a1 a2 a3 a4 a5 a6 a7 a8 a9 a10 a11 a12 a13 a14 a15 a16 a17 a18 a19 a20 ha h1 h2 h⟩⟩
theorem la_ltf (pc : Nat) (pt : Nat → Nat) (hp : la_WP pc pt) (L S : Nat) (sh sl : Nat → Nat) (si N : Nat → Nat → Nat) (hW : la_WL L S sh sl si N) (s : Nat) (hs : s < S) : ∃ r : Int64, ∀ (post : Int64 → St1 → Prop) (fl : Bool) (ad : Nat) (f0 f1 f2 f3 f4 f5 : Int32) (f6 : Int64) (f7 : Int32) (a1 a2 a3 a4 a5 a6 a7 a8 : Nat → Int32) (a9 : Nat → Int64) (a10 : Nat → Int32) (a11 : Nat → Int64) (a12 a13 a14 a15 a16 a17 a18 a19 a20 : Nat → Int32), ad ≤ 63 → f1 = nI pc → la_RP fl ad pc pt a2 → f2 = nI L → la_RL fl ad L S sh sl si N a4 a5 a6 a7 a8 →
    (∀ fr b17, post r (f0, f1, f2, f3, f4, f5, f6, fr, a1, a2, a3, a4, a5, a6, a7, a8, a9, a10, a11, a12, a13, a14, a15, a16, b17, a18, a19, a20)) → wpX_linesThatFit post (f0, f1, f2, f3, f4, f5, f6, f7, a1, a2, a3, a4, a5, a6, a7, a8, a9, a10, a11, a12, a13, a14, a15, a16, a17, a18, a19, a20) (nI s) := by
  have hW' := hW
  obtain ⟨w1, w2, w3, w4, w5, w6⟩ := hW
  have key : ∀ k l (X : Int64), l + k = L → ∃ r : Int64, ∀ (post : Int64 → St1 → Prop) (fl : Bool) (ad : Nat) (f0 f1 f2 f3 f4 f5 : Int32) (f6 : Int64) (f7 : Int32) (a1 a2 a3 a4 a5 a6 a7 a8 : Nat → Int32) (a9 : Nat → Int64) (a10 : Nat → Int32) (a11 : Nat → Int64) (a12 a13 a14 a15 a16 a17 a18 a19 a20 : Nat → Int32), ad ≤ 63 → f1 = nI pc → la_RP fl ad pc pt a2 → f2 = nI L → la_RL fl ad L S sh sl si N a4 a5 a6 a7 a8 →
      la_NA ad sh sl si N l s a17 → (∀ fr b17, post r (f0, f1, f2, f3, f4, f5, f6, fr, a1, a2, a3, a4, a5, a6, a7, a8, a9, a10, a11, a12, a13, a14, a15, a16, b17, a18, a19, a20)) → wX_linesThatFit_9 post (nI s) (k + 1) X (nI l) f0 f1 f2 f3 f4 f5 f6 f7 a1 a2 a3 a4 a5 a6 a7 a8 a9 a10 a11 a12 a13 a14 a15 a16 a17 a18 a19 a20 := by
    intro k
    induction k with
    | zero =>
      intro l X hl
      refine ⟨X, ?_⟩
      intro post fl ad f0 f1 f2 f3 f4 f5 f6 f7 a1 a2 a3 a4 a5 a6 a7 a8 a9 a10 a11 a12 a13 a14 a15 a16 a17 a18 a19 a20 ha h1 hP h2 hR hN h
      subst h2
      exact pk_le L l (fun _ => h _ _) (fun z => absurd z (by omega))
    | succ k ih =>
      intro l X hl
      by_cases c : sh l = s
      · obtain ⟨rf, hrf⟩ := la_lf pc hp.1 (fun k => pt k = 2002) s (sl s) (by omega) (w4 s hs).2 (fun i k => la_tk (pt k) (la_item sh si N l i))
        have go : ∀ (post : Int64 → St1 → Prop) (fl : Bool) (ad : Nat) (f0 f1 f2 f3 f4 f5 : Int32) (f6 : Int64) (f7 : Int32) (a1 a2 a3 a4 a5 a6 a7 a8 : Nat → Int32) (a9 : Nat → Int64) (a10 : Nat → Int32) (a11 : Nat → Int64) (a12 a13 a14 a15 a16 a17 a18 a19 a20 : Nat → Int32), ad ≤ 63 → f1 = nI pc → la_RP fl ad pc pt a2 → f2 = nI L → la_RL fl ad L S sh sl si N a4 a5 a6 a7 a8 →
            la_NA ad sh sl si N l s a17 → (∀ fr b17, la_NA ad sh sl si N (l + 1) s b17 → ((rf = 0 → wX_linesThatFit_9 post (nI s) (k + 1) (X ||| 0) (nI (l + 1)) f0 f1 f2 f3 f4 f5 f6 fr a1 a2 a3 a4 a5 a6 a7 a8 a9 a10 a11 a12 a13 a14 a15 a16 b17 a18 a19 a20) ∧ (¬ rf = 0 → wX_linesThatFit_9 post (nI s) (k + 1) (X ||| ((1 : Int64) <<< ((nI l).toInt64 &&& 63))) (nI (l + 1)) f0 f1 f2 f3 f4 f5 f6 fr a1 a2 a3 a4 a5 a6 a7 a8 a9 a10 a11 a12 a13 a14 a15 a16 b17 a18 a19 a20))) → wX_linesThatFit_9 post (nI s) (k + 1 + 1) X (nI l) f0 f1 f2 f3 f4 f5 f6 f7 a1 a2 a3 a4 a5 a6 a7 a8 a9 a10 a11 a12 a13 a14 a15 a16 a17 a18 a19 a20 := by
          intro post fl ad f0 f1 f2 f3 f4 f5 f6 f7 a1 a2 a3 a4 a5 a6 a7 a8 a9 a10 a11 a12 a13 a14 a15 a16 a17 a18 a19 a20 ha h1 hP h2 hR hN H
          have hg := la_gap ha hp hP
          have hR' := hR
          obtain ⟨r1, r2, r3, r4⟩ := hR
          subst h2
          refine pk_le L l (fun z => absurd z (by omega)) (fun _ => ⟨pk_in l 60 (by omega), ?_⟩)
          rw [nI_clamp (by omega), r1 l (by omega), c]
          refine br_t rfl (la_al hW' hR' (by omega) c hN (fun fr b17 hb => ?_))
          refine hrf _ (fun i => nI (la_I fl ad (la_item sh si N l i))) f0 f1 (nI L) f3 f4 f5 f6 fr a1 a2 a3 a4 a5 a6 a7 a8 a9 a10 a11 a12 a13 a14 a15 a16 b17 a18 a19 a20 h1 hg (r2 s hs) (fun i hi => ⟨fun z => ?_, fun z => ?_⟩) (fun i hi k hk hgk P p1 p0 => ?_) ?_
          · have e : si s i = 1000 := (la_8 (w5 s i hs hi) (r3 s i hs hi)).mp z
            rw [la_NA_at c hb hi e, show (1000 : Int32) = nI 1000 from rfl, nI_add]
            unfold la_item
            rw [c, if_pos e, la_I_n (by omega), Nat.add_assoc]
          · have e : ¬ si s i = 1000 := fun y => z ((la_8 (w5 s i hs hi) (r3 s i hs hi)).mpr y)
            have ok := w5 s i hs hi
            have o : si s i < 24 := by
              unfold la_si at ok
              omega
            rw [r3 s i hs hi]
            show nI (la_I fl ad (la_item sh si N l i)) = _
            unfold la_item
            rw [c, if_neg e, la_I_w o, la_S_w o]
          · rw [hP k hk]
            exact la_takes0 ha (hp.2 k hk) hgk (la_item_ok hW' (by omega) (by rw [c]; exact hi)) p1 p0
          · obtain ⟨H0, H1⟩ := H fr b17 hb
            exact br_c (fun z => nm_e (nm_r (nI_1 l) (H0 z))) (fun z => nm_e (nm_r (nI_1 l) (H1 z)))
        by_cases cf : rf = 0
        · obtain ⟨r, hr⟩ := ih (l + 1) (X ||| 0) (by omega)
          refine ⟨r, ?_⟩
          intro post fl ad f0 f1 f2 f3 f4 f5 f6 f7 a1 a2 a3 a4 a5 a6 a7 a8 a9 a10 a11 a12 a13 a14 a15 a16 a17 a18 a19 a20 ha h1 hP h2 hR hN h
          exact go post fl ad f0 f1 f2 f3 f4 f5 f6 f7 a1 a2 a3 a4 a5 a6 a7 a8 a9 a10 a11 a12 a13 a14 a15 a16 a17 a18 a19 a20 ha h1 hP h2 hR hN (fun fr b17 hb => br_t cf (hr post fl ad f0 f1 f2 f3 f4 f5 f6 fr a1 a2 a3 a4 a5 a6 a7 a8 a9 a10 a11 a12 a13 a14 a15 a16 b17 a18 a19 a20 ha h1 hP h2 hR hb (fun fr' b' => h fr' b')))
        · obtain ⟨r, hr⟩ := ih (l + 1) (X ||| ((1 : Int64) <<< ((nI l).toInt64 &&& 63))) (by omega)
          refine ⟨r, ?_⟩
          intro post fl ad f0 f1 f2 f3 f4 f5 f6 f7 a1 a2 a3 a4 a5 a6 a7 a8 a9 a10 a11 a12 a13 a14 a15 a16 a17 a18 a19 a20 ha h1 hP h2 hR hN h
          exact go post fl ad f0 f1 f2 f3 f4 f5 f6 f7 a1 a2 a3 a4 a5 a6 a7 a8 a9 a10 a11 a12 a13 a14 a15 a16 a17 a18 a19 a20 ha h1 hP h2 hR hN (fun fr b17 hb => br_f cf (hr post fl ad f0 f1 f2 f3 f4 f5 f6 fr a1 a2 a3 a4 a5 a6 a7 a8 a9 a10 a11 a12 a13 a14 a15 a16 b17 a18 a19 a20 ha h1 hP h2 hR hb (fun fr' b' => h fr' b')))
      · obtain ⟨r, hr⟩ := ih (l + 1) X (by omega)
        refine ⟨r, ?_⟩
        intro post fl ad f0 f1 f2 f3 f4 f5 f6 f7 a1 a2 a3 a4 a5 a6 a7 a8 a9 a10 a11 a12 a13 a14 a15 a16 a17 a18 a19 a20 ha h1 hP h2 hR hN h
        have hn := hr post fl ad f0 f1 f2 f3 f4 f5 f6 f7 a1 a2 a3 a4 a5 a6 a7 a8 a9 a10 a11 a12 a13 a14 a15 a16 a17 a18 a19 a20 ha h1 hP h2 hR (la_NA_skip c hN) h
        have hl' := w3 l (by omega)
        subst h2
        refine pk_le L l (fun z => absurd z (by omega)) (fun _ => ⟨pk_in l 60 (by omega), ?_⟩)
        rw [nI_clamp (by omega), hR.1 l (by omega)]
        exact pk_eq (sh l) s (fun z => absurd z c) (fun _ => nm_r (nI_1 l) hn)
  obtain ⟨r, hr⟩ := key L 0 0 (by omega)
  refine ⟨r, ?_⟩
  intro post fl ad f0 f1 f2 f3 f4 f5 f6 f7 a1 a2 a3 a4 a5 a6 a7 a8 a9 a10 a11 a12 a13 a14 a15 a16 a17 a18 a19 a20 ha h1 hP h2 hR h
  unfold wpX_linesThatFit
  exact la_clear (fun b17 hb => ⟨L + 1, hr post fl ad f0 f1 f2 f3 f4 f5 f6 f7 a1 a2 a3 a4 a5 a6 a7 a8 a9 a10 a11 a12 a13 a14 a15 a16 b17 a18 a19 a20 ha h1 hP h2 hR (la_NA_0 (w4 s hs).2 hb) (fun fr' b' => h fr' b')⟩)
theorem la_fit (pc : Nat) (pt : Nat → Nat) (hp : la_WP pc pt) (L S : Nat) (sh sl : Nat → Nat) (si N : Nat → Nat → Nat) (hW : la_WL L S sh sl si N) (sL : Nat → Int64) (fi : Int32) (ft : Int64) : ∃ (fi' : Int32) (ft' : Int64), ∀ (post : St1 → Prop) (fl : Bool) (ad : Nat) (f0 f1 f2 f3 f4 f5 : Int32) (f6 : Int64) (f7 : Int32) (a1 a2 a3 a4 a5 a6 a7 a8 : Nat → Int32) (a9 : Nat → Int64) (a10 : Nat → Int32) (a11 : Nat → Int64) (a12 a13 a14 a15 a16 a17 a18 a19 a20 : Nat → Int32), ad ≤ 63 → f1 = nI pc → la_RP fl ad pc pt a2 → f2 = nI L → f3 = nI S → la_RL fl ad L S sh sl si N a4 a5 a6 a7 a8 → a9 = sL →
    f5 = fi → f6 = ft → (∀ fr b17, post (f0, f1, f2, f3, f4, fi', ft', fr, a1, a2, a3, a4, a5, a6, a7, a8, a9, a10, a11, a12, a13, a14, a15, a16, b17, a18, a19, a20)) → wpX_fit post (f0, f1, f2, f3, f4, f5, f6, f7, a1, a2, a3, a4, a5, a6, a7, a8, a9, a10, a11, a12, a13, a14, a15, a16, a17, a18, a19, a20) := by
  have hW' := hW
  have hp8 := hp.1
  obtain ⟨w1, w2, w3, w4, w5, w6⟩ := hW
  by_cases cf : fi = 0
  rotate_left 1
  · refine ⟨fi, ft, ?_⟩
    intro post fl ad f0 f1 f2 f3 f4 f5 f6 f7 a1 a2 a3 a4 a5 a6 a7 a8 a9 a10 a11 a12 a13 a14 a15 a16 a17 a18 a19 a20 ha h1 hP h2 h3 hR h9 h5 h6 h
    subst h5 h6
    exact br_f cf (h _ _)
  have key : ∀ (x1 : Int32) k s (F : Int64), s + k = S → ∃ r : Int64, ∀ (post : St1 → Prop) (fl : Bool) (ad : Nat) (f0 f1 f2 f3 f4 f5 : Int32) (f6 : Int64) (f7 : Int32) (a1 a2 a3 a4 a5 a6 a7 a8 : Nat → Int32) (a9 : Nat → Int64) (a10 : Nat → Int32) (a11 : Nat → Int64) (a12 a13 a14 a15 a16 a17 a18 a19 a20 : Nat → Int32), ad ≤ 63 → f1 = nI pc → la_RP fl ad pc pt a2 → f2 = nI L → f3 = nI S → la_RL fl ad L S sh sl si N a4 a5 a6 a7 a8 → a9 = sL →
      (∀ fr b17, post (f0, f1, f2, f3, f4, f5, r, fr, a1, a2, a3, a4, a5, a6, a7, a8, a9, a10, a11, a12, a13, a14, a15, a16, b17, a18, a19, a20)) → wX_fit_33 post x1 (k + 1) (nI s) f0 f1 f2 f3 f4 f5 F f7 a1 a2 a3 a4 a5 a6 a7 a8 a9 a10 a11 a12 a13 a14 a15 a16 a17 a18 a19 a20 := by
    intro x1 k
    induction k with
    | zero =>
      intro s F hs
      refine ⟨F, ?_⟩
      intro post fl ad f0 f1 f2 f3 f4 f5 f6 f7 a1 a2 a3 a4 a5 a6 a7 a8 a9 a10 a11 a12 a13 a14 a15 a16 a17 a18 a19 a20 ha h1 hP h2 h3 hR h9 h
      subst h3
      exact pk_le S s (fun _ => h _ _) (fun z => absurd z (by omega))
    | succ k ih =>
      intro s F hs
      by_cases c0 : pc = 0
      · refine ⟨F, ?_⟩
        intro post fl ad f0 f1 f2 f3 f4 f5 f6 f7 a1 a2 a3 a4 a5 a6 a7 a8 a9 a10 a11 a12 a13 a14 a15 a16 a17 a18 a19 a20 ha h1 hP h2 h3 hR h9 h
        subst h1 h3
        exact pk_le S s (fun z => absurd z (by omega)) (fun _ => pk_le pc 0 (fun _ => h _ _) (fun z => absurd z (by omega)))
      obtain ⟨rm, hrm⟩ := la_smf pc hp.1 (fun k => pt k = 2002) s (sl s) (by omega) (w4 s (by omega)).2 (fun i k => (si s i = 1000 ∧ 1000 ≤ pt k) ∨ (¬ si s i = 1000 ∧ la_tk (pt k) (si s i)))
      have go : ∀ (P : Int32 → Prop) (fl : Bool) (ad : Nat) (f0 f1 f2 f3 f4 f5 : Int32) (f6 : Int64) (f7 : Int32) (a1 a2 a3 a4 a5 a6 a7 a8 : Nat → Int32) (a9 : Nat → Int64) (a10 : Nat → Int32) (a11 : Nat → Int64) (a12 a13 a14 a15 a16 a17 a18 a19 a20 : Nat → Int32), ad ≤ 63 → f1 = nI pc → la_RP fl ad pc pt a2 → la_RL fl ad L S sh sl si N a4 a5 a6 a7 a8 → P rm → wpX_shapeMayFit P (f0, f1, f2, f3, f4, f5, f6, f7, a1, a2, a3, a4, a5, a6, a7, a8, a9, a10, a11, a12, a13, a14, a15, a16, a17, a18, a19, a20) (nI s) := by
        intro P fl ad f0 f1 f2 f3 f4 f5 f6 f7 a1 a2 a3 a4 a5 a6 a7 a8 a9 a10 a11 a12 a13 a14 a15 a16 a17 a18 a19 a20 ha h1 hP hR h
        have hg := la_gap ha hp hP
        obtain ⟨r1, r2, r3, r4⟩ := hR
        refine hrm P f0 f1 f2 f3 f4 f5 f6 f7 a1 a2 a3 a4 a5 a6 a7 a8 a9 a10 a11 a12 a13 a14 a15 a16 a17 a18 a19 a20 h1 hg (r2 s (by omega)) (fun i hi k hk hgk P p1 p0 => ?_) h
        have ok := w5 s i (by omega) hi
        have e8 := la_8 ok (r3 s i (by omega) hi)
        rw [hP k hk]
        by_cases c : si s i = 1000
        · rw [if_pos (e8.mpr c)]
          refine la_takes1 ha (hp.2 k hk) (fun z => p1 (Or.inl ⟨c, z⟩)) (fun z => p0 ?_)
          intro t
          rcases t with t | t
          · omega
          · exact t.1 c
        · rw [if_neg (fun z => c (e8.mp z)), r3 s i (by omega) hi]
          have o : si s i < 24 := by
            unfold la_si at ok
            omega
          have eI : la_S fl (si s i) = la_I fl ad (si s i) := by rw [la_I_w o, la_S_w o]
          rw [eI]
          refine la_takes0 ha (hp.2 k hk) hgk (Or.inl o) (fun z => p1 (Or.inr ⟨c, z⟩)) (fun z => p0 ?_)
          intro t
          rcases t with t | t
          · exact c t.1
          · exact z t.2
      by_cases cm : rm = 0
      · obtain ⟨r, hr⟩ := ih (s + 1) F (by omega)
        refine ⟨r, ?_⟩
        intro post fl ad f0 f1 f2 f3 f4 f5 f6 f7 a1 a2 a3 a4 a5 a6 a7 a8 a9 a10 a11 a12 a13 a14 a15 a16 a17 a18 a19 a20 ha h1 hP h2 h3 hR h9 h
        have hn := hr post fl ad f0 f1 f2 f3 f4 f5 f6 f7 a1 a2 a3 a4 a5 a6 a7 a8 a9 a10 a11 a12 a13 a14 a15 a16 a17 a18 a19 a20 ha h1 hP h2 h3 hR h9 h
        have g := fun (P : Int32 → Prop) hP' => go P fl ad f0 f1 f2 f3 f4 f5 F f7 a1 a2 a3 a4 a5 a6 a7 a8 a9 a10 a11 a12 a13 a14 a15 a16 a17 a18 a19 a20 ha h1 hP hR hP'
        subst h1 h3
        exact pk_le S s (fun z => absurd z (by omega)) (fun _ => pk_le pc 0 (fun z => absurd z (by omega)) (fun _ => g _ (br_t cm (nm_r (nI_1 s) hn))))
      · by_cases cx : x1 = 0
        · obtain ⟨rl, hrl⟩ := la_ltf pc pt hp L S sh sl si N hW' s (by omega)
          obtain ⟨r, hr⟩ := ih (s + 1) (F ||| rl) (by omega)
          refine ⟨r, ?_⟩
          intro post fl ad f0 f1 f2 f3 f4 f5 f6 f7 a1 a2 a3 a4 a5 a6 a7 a8 a9 a10 a11 a12 a13 a14 a15 a16 a17 a18 a19 a20 ha h1 hP h2 h3 hR h9 h
          have g := fun (P : Int32 → Prop) hP' => go P fl ad f0 f1 f2 f3 f4 f5 F f7 a1 a2 a3 a4 a5 a6 a7 a8 a9 a10 a11 a12 a13 a14 a15 a16 a17 a18 a19 a20 ha h1 hP hR hP'
          have g2 := fun (P : Int64 → St1 → Prop) hP' => hrl P fl ad f0 f1 f2 f3 f4 f5 F f7 a1 a2 a3 a4 a5 a6 a7 a8 a9 a10 a11 a12 a13 a14 a15 a16 a17 a18 a19 a20 ha h1 hP h2 hR hP'
          have hn := fun fr b17 => hr post fl ad f0 f1 f2 f3 f4 f5 f6 fr a1 a2 a3 a4 a5 a6 a7 a8 a9 a10 a11 a12 a13 a14 a15 a16 b17 a18 a19 a20 ha h1 hP h2 h3 hR h9 (fun fr' b' => h fr' b')
          subst h1 h3
          refine pk_le S s (fun z => absurd z (by omega)) (fun _ => pk_le pc 0 (fun z => absurd z (by omega)) (fun _ => g _ (br_f cm (br_t cx (g2 _ (fun fr b17 => ?_))))))
          exact nm_e (nm_r (nI_1 s) (hn fr b17))
        · obtain ⟨r, hr⟩ := ih (s + 1) (F ||| sL s) (by omega)
          refine ⟨r, ?_⟩
          intro post fl ad f0 f1 f2 f3 f4 f5 f6 f7 a1 a2 a3 a4 a5 a6 a7 a8 a9 a10 a11 a12 a13 a14 a15 a16 a17 a18 a19 a20 ha h1 hP h2 h3 hR h9 h
          have g := fun (P : Int32 → Prop) hP' => go P fl ad f0 f1 f2 f3 f4 f5 F f7 a1 a2 a3 a4 a5 a6 a7 a8 a9 a10 a11 a12 a13 a14 a15 a16 a17 a18 a19 a20 ha h1 hP hR hP'
          have hn := hr post fl ad f0 f1 f2 f3 f4 f5 f6 f7 a1 a2 a3 a4 a5 a6 a7 a8 a9 a10 a11 a12 a13 a14 a15 a16 a17 a18 a19 a20 ha h1 hP h2 h3 hR h9 h
          subst h1 h3 h9
          refine pk_le S s (fun z => absurd z (by omega)) (fun _ => pk_le pc 0 (fun z => absurd z (by omega)) (fun _ => g _ (br_f cm (br_f cx ⟨pk_in s 60 (by omega), ?_⟩))))
          rw [nI_clamp (by omega)]
          exact nm_e (nm_r (nI_1 s) hn)
  obtain ⟨rn, hrn⟩ := la_nn pc pt hp
  by_cases cn : rn = 0
  · obtain ⟨r, hr⟩ := key 1 S 0 0 (by omega)
    refine ⟨1, r, ?_⟩
    intro post fl ad f0 f1 f2 f3 f4 f5 f6 f7 a1 a2 a3 a4 a5 a6 a7 a8 a9 a10 a11 a12 a13 a14 a15 a16 a17 a18 a19 a20 ha h1 hP h2 h3 hR h9 h5 h6 h
    exact br_t (h5.trans cf) (hrn _ fl ad f0 f1 f2 f3 f4 1 0 f7 a1 a2 a3 a4 a5 a6 a7 a8 a9 a10 a11 a12 a13 a14 a15 a16 a17 a18 a19 a20 ha h1 hP (br_t cn ⟨S + 1, hr post fl ad f0 f1 f2 f3 f4 1 f6 f7 a1 a2 a3 a4 a5 a6 a7 a8 a9 a10 a11 a12 a13 a14 a15 a16 a17 a18 a19 a20 ha h1 hP h2 h3 hR h9 h⟩))
  · obtain ⟨r, hr⟩ := key 0 S 0 0 (by omega)
    refine ⟨1, r, ?_⟩
    intro post fl ad f0 f1 f2 f3 f4 f5 f6 f7 a1 a2 a3 a4 a5 a6 a7 a8 a9 a10 a11 a12 a13 a14 a15 a16 a17 a18 a19 a20 ha h1 hP h2 h3 hR h9 h5 h6 h
    exact br_t (h5.trans cf) (hrn _ fl ad f0 f1 f2 f3 f4 1 0 f7 a1 a2 a3 a4 a5 a6 a7 a8 a9 a10 a11 a12 a13 a14 a15 a16 a17 a18 a19 a20 ha h1 hP (br_f cn ⟨S + 1, hr post fl ad f0 f1 f2 f3 f4 1 f6 f7 a1 a2 a3 a4 a5 a6 a7 a8 a9 a10 a11 a12 a13 a14 a15 a16 a17 a18 a19 a20 ha h1 hP h2 h3 hR h9 h⟩))
end
section
/-! ===== having, columns ===== -/
theorem la_hasNum {post : Int32 → Prop} {f0 f1 f2 f3 f4 f5 : Int32} {f6 : Int64} {f7 : Int32} {a1 a2 a3 a4 a5 a6 a7 a8 : Nat → Int32} {a9 : Nat → Int64} {a10 : Nat → Int32} {a11 : Nat → Int64} {a12 a13 a14 a15 a16 a17 a18 a19 a20 : Nat → Int32} {s n : Nat} {x2 : Int32} {B C : Nat → Prop} (hs : s < 60) (hn : n ≤ 8) (h7 : a7 s = nI n) (h8 : ∀ i, i < n → (a8 (8 * s + i) = 1000 ↔ B i)) (h17 : ∀ i, i < n → B i → (a17 i = x2 ↔ C i))
    (h1 : (∃ i, i < n ∧ B i ∧ C i) → post 1) (h0 : ¬ (∃ i, i < n ∧ B i ∧ C i) → post 0) : wpX_hasNumber post (f0, f1, f2, f3, f4, f5, f6, f7, a1, a2, a3, a4, a5, a6, a7, a8, a9, a10, a11, a12, a13, a14, a15, a16, a17, a18, a19, a20) (nI s) x2 := by
  have key : ∀ k i, i + k = n → (∀ j, j < i → B j → ¬ C j) → wX_hasNumber_2 post (nI s) x2 f0 f1 f2 f3 f4 f5 f6 f7 a1 a2 a3 a4 a5 a6 a7 a8 a9 a10 a11 a12 a13 a14 a15 a16 a17 a18 a19 a20 (k + 1) (nI i) := by
    intro k
    induction k with
    | zero =>
      intro i hi hj
      refine ⟨pk_in s 60 hs, ?_⟩
      rw [nI_clamp (by omega), h7]
      refine pk_le n i (fun _ => h0 ?_) (fun z => absurd z (by omega))
      intro ⟨j, j1, j2, j3⟩
      exact hj j (by omega) j2 j3
    | succ k ih =>
      intro i hi hj
      refine ⟨pk_in s 60 hs, ?_⟩
      rw [nI_clamp (by omega), h7]
      refine pk_le n i (fun z => absurd z (by omega)) (fun _ => ⟨pk_in (8 * s + i) 480 (by omega) (hx := la_ix s i), ?_⟩)
      rw [la_ix, nI_clamp (by omega)]
      by_cases b : B i
      · refine br_t ((h8 i (by omega)).mpr b) ⟨pk_in i 8 (by omega), ?_⟩
        rw [nI_clamp (by omega)]
        by_cases c : C i
        · exact br_t ((h17 i (by omega) b).mpr c) (h1 ⟨i, by omega, b, c⟩)
        · refine br_f (fun z => c ((h17 i (by omega) b).mp z)) (nm_r (nI_1 i) (ih (i + 1) (by omega) ?_))
          intro j hj1 hb
          by_cases e : j = i
          · rw [e]
            exact c
          · exact hj j (by omega) hb
      · refine br_f (fun z => b ((h8 i (by omega)).mp z)) (nm_r (nI_1 i) (ih (i + 1) (by omega) ?_))
        intro j hj1 hb
        by_cases e : j = i
        · rw [e] at hb
          exact absurd hb b
        · exact hj j (by omega) hb
  unfold wpX_hasNumber
  exact ⟨n + 1, key n 0 (by omega) (fun j hj => absurd hj (by omega))⟩
theorem la_havingIn (L S : Nat) (sh sl : Nat → Nat) (si N : Nat → Nat → Nat) (hW : la_WL L S sh sl si N) (s : Nat) (hs : s < S) (v : Nat) (hv : v ≤ 1000) : ∃ r : Int32, ∀ (post : Int32 → St1 → Prop) (fl : Bool) (ad : Nat) (f0 f1 f2 f3 f4 f5 : Int32) (f6 : Int64) (f7 : Int32) (a1 a2 a3 a4 a5 a6 a7 a8 : Nat → Int32) (a9 : Nat → Int64) (a10 : Nat → Int32) (a11 : Nat → Int64) (a12 a13 a14 a15 a16 a17 a18 a19 a20 : Nat → Int32), ad ≤ 63 → f2 = nI L → la_RL fl ad L S sh sl si N a4 a5 a6 a7 a8 →
    (∀ fr b17, post r (f0, f1, f2, f3, f4, f5, f6, fr, a1, a2, a3, a4, a5, a6, a7, a8, a9, a10, a11, a12, a13, a14, a15, a16, b17, a18, a19, a20)) → wpX_havingIn post (f0, f1, f2, f3, f4, f5, f6, f7, a1, a2, a3, a4, a5, a6, a7, a8, a9, a10, a11, a12, a13, a14, a15, a16, a17, a18, a19, a20) (nI s) (nI (v + ad)) := by
  have hW' := hW
  obtain ⟨w1, w2, w3, w4, w5, w6⟩ := hW
  have key : ∀ k l (X : Int32), l + k = L → ∃ r : Int32, ∀ (post : Int32 → St1 → Prop) (fl : Bool) (ad : Nat) (f0 f1 f2 f3 f4 f5 : Int32) (f6 : Int64) (f7 : Int32) (a1 a2 a3 a4 a5 a6 a7 a8 : Nat → Int32) (a9 : Nat → Int64) (a10 : Nat → Int32) (a11 : Nat → Int64) (a12 a13 a14 a15 a16 a17 a18 a19 a20 : Nat → Int32), ad ≤ 63 → f2 = nI L → la_RL fl ad L S sh sl si N a4 a5 a6 a7 a8 →
      la_NA ad sh sl si N l s a17 → (∀ fr b17, post r (f0, f1, f2, f3, f4, f5, f6, fr, a1, a2, a3, a4, a5, a6, a7, a8, a9, a10, a11, a12, a13, a14, a15, a16, b17, a18, a19, a20)) → wX_havingIn_9 post (nI s) (nI (v + ad)) (k + 1) X (nI l) f0 f1 f2 f3 f4 f5 f6 f7 a1 a2 a3 a4 a5 a6 a7 a8 a9 a10 a11 a12 a13 a14 a15 a16 a17 a18 a19 a20 := by
    intro k
    induction k with
    | zero =>
      intro l X hl
      refine ⟨X, ?_⟩
      intro post fl ad f0 f1 f2 f3 f4 f5 f6 f7 a1 a2 a3 a4 a5 a6 a7 a8 a9 a10 a11 a12 a13 a14 a15 a16 a17 a18 a19 a20 ha h2 hR hN h
      subst h2
      exact pk_le L l (fun _ => h _ _) (fun z => absurd z (by omega))
    | succ k ih =>
      intro l X hl
      by_cases c : sh l = s
      · have go : ∀ (post : Int32 → St1 → Prop) (fl : Bool) (ad : Nat) (f0 f1 f2 f3 f4 f5 : Int32) (f6 : Int64) (f7 : Int32) (a1 a2 a3 a4 a5 a6 a7 a8 : Nat → Int32) (a9 : Nat → Int64) (a10 : Nat → Int32) (a11 : Nat → Int64) (a12 a13 a14 a15 a16 a17 a18 a19 a20 : Nat → Int32), ad ≤ 63 → f2 = nI L → la_RL fl ad L S sh sl si N a4 a5 a6 a7 a8 → la_NA ad sh sl si N l s a17 →
            (∀ fr b17, la_NA ad sh sl si N (l + 1) s b17 → (((∃ i, i < sl s ∧ si s i = 1000 ∧ N l i = v) → wX_havingIn_9 post (nI s) (nI (v + ad)) (k + 1) (X + 1) (nI (l + 1)) f0 f1 f2 f3 f4 f5 f6 fr a1 a2 a3 a4 a5 a6 a7 a8 a9 a10 a11 a12 a13 a14 a15 a16 b17 a18 a19 a20) ∧ (¬ (∃ i, i < sl s ∧ si s i = 1000 ∧ N l i = v) → wX_havingIn_9 post (nI s) (nI (v + ad)) (k + 1) (X + 0) (nI (l + 1)) f0 f1 f2 f3 f4 f5 f6 fr a1 a2 a3 a4 a5 a6 a7 a8 a9 a10 a11 a12 a13 a14 a15 a16 b17 a18 a19 a20))) → wX_havingIn_9 post (nI s) (nI (v + ad)) (k + 1 + 1) X (nI l) f0 f1 f2 f3 f4 f5 f6 f7 a1 a2 a3 a4 a5 a6 a7 a8 a9 a10 a11 a12 a13 a14 a15 a16 a17 a18 a19 a20 := by
          intro post fl ad f0 f1 f2 f3 f4 f5 f6 f7 a1 a2 a3 a4 a5 a6 a7 a8 a9 a10 a11 a12 a13 a14 a15 a16 a17 a18 a19 a20 ha h2 hR hN H
          have hR' := hR
          obtain ⟨r1, r2, r3, r4⟩ := hR
          subst h2
          refine pk_le L l (fun z => absurd z (by omega)) (fun _ => ⟨pk_in l 60 (by omega), ?_⟩)
          rw [nI_clamp (by omega), r1 l (by omega), c]
          refine br_t rfl (la_al hW' hR' (by omega) c hN (fun fr b17 hb => ?_))
          obtain ⟨H1, H0⟩ := H fr b17 hb
          refine la_hasNum (B := fun i => si s i = 1000) (C := fun i => N l i = v) (n := sl s) (by omega) (w4 s hs).2 (r2 s hs) (fun i hi => la_8 (w5 s i hs hi) (r3 s i hs hi)) (fun i hi e => ?_) (fun z => br_f (by decide) (nm_e (nm_r (nI_1 l) (H1 z)))) (fun z => br_t (by decide) (nm_e (nm_r (nI_1 l) (H0 z))))
          have := w6 l i (by omega)
          rw [la_NA_at c hb hi e, nI_eq (by omega) (by omega)]
          omega
        by_cases cf : ∃ i, i < sl s ∧ si s i = 1000 ∧ N l i = v
        · obtain ⟨r, hr⟩ := ih (l + 1) (X + 1) (by omega)
          refine ⟨r, ?_⟩
          intro post fl ad f0 f1 f2 f3 f4 f5 f6 f7 a1 a2 a3 a4 a5 a6 a7 a8 a9 a10 a11 a12 a13 a14 a15 a16 a17 a18 a19 a20 ha h2 hR hN h
          exact go post fl ad f0 f1 f2 f3 f4 f5 f6 f7 a1 a2 a3 a4 a5 a6 a7 a8 a9 a10 a11 a12 a13 a14 a15 a16 a17 a18 a19 a20 ha h2 hR hN (fun fr b17 hb => br_t cf (hr post fl ad f0 f1 f2 f3 f4 f5 f6 fr a1 a2 a3 a4 a5 a6 a7 a8 a9 a10 a11 a12 a13 a14 a15 a16 b17 a18 a19 a20 ha h2 hR hb (fun fr' b' => h fr' b')))
        · obtain ⟨r, hr⟩ := ih (l + 1) (X + 0) (by omega)
          refine ⟨r, ?_⟩
          intro post fl ad f0 f1 f2 f3 f4 f5 f6 f7 a1 a2 a3 a4 a5 a6 a7 a8 a9 a10 a11 a12 a13 a14 a15 a16 a17 a18 a19 a20 ha h2 hR hN h
          exact go post fl ad f0 f1 f2 f3 f4 f5 f6 f7 a1 a2 a3 a4 a5 a6 a7 a8 a9 a10 a11 a12 a13 a14 a15 a16 a17 a18 a19 a20 ha h2 hR hN (fun fr b17 hb => br_f cf (hr post fl ad f0 f1 f2 f3 f4 f5 f6 fr a1 a2 a3 a4 a5 a6 a7 a8 a9 a10 a11 a12 a13 a14 a15 a16 b17 a18 a19 a20 ha h2 hR hb (fun fr' b' => h fr' b')))
      · obtain ⟨r, hr⟩ := ih (l + 1) X (by omega)
        refine ⟨r, ?_⟩
        intro post fl ad f0 f1 f2 f3 f4 f5 f6 f7 a1 a2 a3 a4 a5 a6 a7 a8 a9 a10 a11 a12 a13 a14 a15 a16 a17 a18 a19 a20 ha h2 hR hN h
        have hn := hr post fl ad f0 f1 f2 f3 f4 f5 f6 f7 a1 a2 a3 a4 a5 a6 a7 a8 a9 a10 a11 a12 a13 a14 a15 a16 a17 a18 a19 a20 ha h2 hR (la_NA_skip c hN) h
        have hl' := w3 l (by omega)
        subst h2
        refine pk_le L l (fun z => absurd z (by omega)) (fun _ => ⟨pk_in l 60 (by omega), ?_⟩)
        rw [nI_clamp (by omega), hR.1 l (by omega)]
        exact pk_eq (sh l) s (fun z => absurd z c) (fun _ => nm_r (nI_1 l) hn)
  obtain ⟨r, hr⟩ := key L 0 0 (by omega)
  refine ⟨r, ?_⟩
  intro post fl ad f0 f1 f2 f3 f4 f5 f6 f7 a1 a2 a3 a4 a5 a6 a7 a8 a9 a10 a11 a12 a13 a14 a15 a16 a17 a18 a19 a20 ha h2 hR h
  unfold wpX_havingIn
  exact la_clear (fun b17 hb => ⟨L + 1, hr post fl ad f0 f1 f2 f3 f4 f5 f6 f7 a1 a2 a3 a4 a5 a6 a7 a8 a9 a10 a11 a12 a13 a14 a15 a16 b17 a18 a19 a20 ha h2 hR (la_NA_0 (w4 s hs).2 hb) (fun fr' b' => h fr' b')⟩)
theorem la_having (L S : Nat) (sh sl : Nat → Nat) (si N : Nat → Nat → Nat) (hW : la_WL L S sh sl si N) (wl : Nat → Int64) (x : Nat) (hx : la_it x) : ∃ r : Int32, ∀ (post : Int32 → St1 → Prop) (fl : Bool) (ad : Nat) (f0 f1 f2 f3 f4 f5 : Int32) (f6 : Int64) (f7 : Int32) (a1 a2 a3 a4 a5 a6 a7 a8 : Nat → Int32) (a9 : Nat → Int64) (a10 : Nat → Int32) (a11 : Nat → Int64) (a12 a13 a14 a15 a16 a17 a18 a19 a20 : Nat → Int32), ad ≤ 63 → f2 = nI L → f3 = nI S → la_RL fl ad L S sh sl si N a4 a5 a6 a7 a8 → (∀ w, w < 24 → a11 w = wl (la_w fl w)) →
    (∀ fr b17, post r (f0, f1, f2, f3, f4, f5, f6, fr, a1, a2, a3, a4, a5, a6, a7, a8, a9, a10, a11, a12, a13, a14, a15, a16, b17, a18, a19, a20)) → wpX_having post (f0, f1, f2, f3, f4, f5, f6, f7, a1, a2, a3, a4, a5, a6, a7, a8, a9, a10, a11, a12, a13, a14, a15, a16, a17, a18, a19, a20) (nI (la_I fl ad x)) := by
  have hW' := hW
  obtain ⟨w1, w2, w3, w4, w5, w6⟩ := hW
  rcases Nat.lt_or_ge x 24 with hw | hw
  · refine ⟨nI (la_cnt (wl x) 60), ?_⟩
    intro post fl ad f0 f1 f2 f3 f4 f5 f6 f7 a1 a2 a3 a4 a5 a6 a7 a8 a9 a10 a11 a12 a13 a14 a15 a16 a17 a18 a19 a20 ha h2 h3 hR h11 h
    have hlt := la_w_lt (fl := fl) hw
    rw [la_I_w hw]
    unfold wpX_having
    refine la_isItem _ (Or.inl hlt) (br_f (by decide) (la_isNum _ (by omega) (fun z => absurd z (by omega)) (fun _ => br_t (by decide) ⟨pk_in _ 24 hlt, ?_⟩)))
    rw [nI_clamp (by omega), h11 _ hlt, la_w_w hw]
    exact la_ones (h _ _)
  · have hx2 : 1000 ≤ x ∧ x ≤ 1910 := by
      unfold la_it at hx
      omega
    have key : ∀ k s (X : Int32), s + k = S → ∃ r : Int32, ∀ (post : Int32 → St1 → Prop) (fl : Bool) (ad : Nat) (f0 f1 f2 f3 f4 f5 : Int32) (f6 : Int64) (f7 : Int32) (a1 a2 a3 a4 a5 a6 a7 a8 : Nat → Int32) (a9 : Nat → Int64) (a10 : Nat → Int32) (a11 : Nat → Int64) (a12 a13 a14 a15 a16 a17 a18 a19 a20 : Nat → Int32), ad ≤ 63 → f2 = nI L → f3 = nI S → la_RL fl ad L S sh sl si N a4 a5 a6 a7 a8 →
        (∀ fr b17, post r (f0, f1, f2, f3, f4, f5, f6, fr, a1, a2, a3, a4, a5, a6, a7, a8, a9, a10, a11, a12, a13, a14, a15, a16, b17, a18, a19, a20)) → wX_having_30 post (nI (x + ad)) (k + 1) X (nI s) f0 f1 f2 f3 f4 f5 f6 f7 a1 a2 a3 a4 a5 a6 a7 a8 a9 a10 a11 a12 a13 a14 a15 a16 a17 a18 a19 a20 := by
      intro k
      induction k with
      | zero =>
        intro s X hs
        refine ⟨X, ?_⟩
        intro post fl ad f0 f1 f2 f3 f4 f5 f6 f7 a1 a2 a3 a4 a5 a6 a7 a8 a9 a10 a11 a12 a13 a14 a15 a16 a17 a18 a19 a20 ha h2 h3 hR h
        subst h3
        exact pk_le S s (fun _ => h _ _) (fun z => absurd z (by omega))
      | succ k ih =>
        intro s X hs
        obtain ⟨rv, hrv⟩ := la_havingIn L S sh sl si N hW' s (by omega) (x - 1000) (by omega)
        obtain ⟨r, hr⟩ := ih (s + 1) (X + rv) (by omega)
        refine ⟨r, ?_⟩
        intro post fl ad f0 f1 f2 f3 f4 f5 f6 f7 a1 a2 a3 a4 a5 a6 a7 a8 a9 a10 a11 a12 a13 a14 a15 a16 a17 a18 a19 a20 ha h2 h3 hR h
        have g := fun (P : Int32 → St1 → Prop) hP' => hrv P fl ad f0 f1 f2 f3 f4 f5 f6 f7 a1 a2 a3 a4 a5 a6 a7 a8 a9 a10 a11 a12 a13 a14 a15 a16 a17 a18 a19 a20 ha h2 hR hP'
        have hn := fun fr b17 => hr post fl ad f0 f1 f2 f3 f4 f5 f6 fr a1 a2 a3 a4 a5 a6 a7 a8 a9 a10 a11 a12 a13 a14 a15 a16 b17 a18 a19 a20 ha h2 h3 hR (fun fr' b' => h fr' b')
        have e : nI (x + ad) - 1000 = nI (x - 1000 + ad) := by
          rw [show (1000 : Int32) = nI 1000 from rfl, pk_sub (by omega)]
          congr 1
          omega
        subst h3
        refine pk_le S s (fun z => absurd z (by omega)) (fun _ => ?_)
        rw [e]
        exact g _ (fun fr b17 => nm_e (nm_r (nI_1 s) (hn fr b17)))
    obtain ⟨r, hr⟩ := key S 0 0 (by omega)
    refine ⟨r, ?_⟩
    intro post fl ad f0 f1 f2 f3 f4 f5 f6 f7 a1 a2 a3 a4 a5 a6 a7 a8 a9 a10 a11 a12 a13 a14 a15 a16 a17 a18 a19 a20 ha h2 h3 hR h11 h
    rw [la_I_n hw]
    unfold wpX_having
    exact la_isItem _ (by omega) (br_f (by decide) (la_isNum _ (by omega) (fun _ _ => br_f (by decide) ⟨S + 1, hr post fl ad f0 f1 f2 f3 f4 f5 f6 f7 a1 a2 a3 a4 a5 a6 a7 a8 a9 a10 a11 a12 a13 a14 a15 a16 a17 a18 a19 a20 ha h2 h3 hR h⟩) (fun z => absurd z (by omega))))
/-! totals: least and most are kept plus one (0: none yet) -/
def la_mn (N : Nat → Nat → Nat) (sh : Nat → Nat) (s i : Nat) : Nat → Nat
  | 0 => 0
  | l + 1 => if sh l = s then (if la_mn N sh s i l = 0 ∨ N l i + 1 < la_mn N sh s i l then N l i + 1 else la_mn N sh s i l) else la_mn N sh s i l
def la_mx (N : Nat → Nat → Nat) (sh : Nat → Nat) (s i : Nat) : Nat → Nat
  | 0 => 0
  | l + 1 => if sh l = s then (if la_mx N sh s i l < N l i + 1 then N l i + 1 else la_mx N sh s i l) else la_mx N sh s i l
def la_sum (N : Nat → Nat → Nat) (sh : Nat → Nat) (s i : Nat) : Nat → Nat
  | 0 => 0
  | l + 1 => if sh l = s then la_sum N sh s i l + N l i else la_sum N sh s i l
def la_ct (sh : Nat → Nat) (s : Nat) : Nat → Nat
  | 0 => 0
  | l + 1 => if sh l = s then la_ct sh s l + 1 else la_ct sh s l
def la_v (ad m : Nat) (d : Int32) : Int32 := if m = 0 then d else nI (m - 1 + ad)
theorem la_mn_le {N : Nat → Nat → Nat} {sh : Nat → Nat} {s i L : Nat} (h : ∀ l i, l < L → N l i ≤ 910) : ∀ l, l ≤ L → la_mn N sh s i l ≤ 911 := by
  intro l
  induction l with
  | zero => exact fun _ => Nat.zero_le _
  | succ l ih =>
    intro hl
    have h1 := h l i (by omega)
    have h2 := ih (by omega)
    unfold la_mn
    split
    · split <;> omega
    · exact h2
theorem la_mx_le {N : Nat → Nat → Nat} {sh : Nat → Nat} {s i L : Nat} (h : ∀ l i, l < L → N l i ≤ 910) : ∀ l, l ≤ L → la_mx N sh s i l ≤ 911 := by
  intro l
  induction l with
  | zero => exact fun _ => Nat.zero_le _
  | succ l ih =>
    intro hl
    have h1 := h l i (by omega)
    have h2 := ih (by omega)
    unfold la_mx
    split
    · split <;> omega
    · exact h2
theorem la_mn_pos {N : Nat → Nat → Nat} {sh : Nat → Nat} {s i l0 : Nat} (h : sh l0 = s) : ∀ l, l0 < l → 0 < la_mn N sh s i l := by
  intro l
  induction l with
  | zero => exact fun z => absurd z (by omega)
  | succ l ih =>
    intro hl
    unfold la_mn
    by_cases e : sh l = s
    · rw [if_pos e]
      split <;> omega
    · rw [if_neg e]
      have : ¬ l0 = l := fun z => e (by rw [← z]; exact h)
      exact ih (by omega)
theorem la_mx_pos {N : Nat → Nat → Nat} {sh : Nat → Nat} {s i l0 : Nat} (h : sh l0 = s) : ∀ l, l0 < l → 0 < la_mx N sh s i l := by
  intro l
  induction l with
  | zero => exact fun z => absurd z (by omega)
  | succ l ih =>
    intro hl
    unfold la_mx
    by_cases e : sh l = s
    · rw [if_pos e]
      split <;> omega
    · rw [if_neg e]
      have : ¬ l0 = l := fun z => e (by rw [← z]; exact h)
      exact ih (by omega)
theorem la_v_mn {ad m n : Nat} (ha : ad ≤ 63) (hm : m ≤ 911) (hn : n ≤ 910) : (la_v ad m 1000 ≤ nI (n + ad)) ↔ ¬ (m = 0 ∨ n + 1 < m) := by
  unfold la_v
  by_cases c : m = 0
  · rw [if_pos c, show (1000 : Int32) = nI 1000 from rfl, nI_leI (by omega) (by omega)]
    omega
  · rw [if_neg c, nI_leI (by omega) (by omega)]
    omega
theorem la_v_mx {ad m n : Nat} (ha : ad ≤ 63) (hm : m ≤ 911) (hn : n ≤ 910) : (nI (n + ad) ≤ la_v ad m (-1)) ↔ ¬ m < n + 1 := by
  unfold la_v
  by_cases c : m = 0
  · rw [if_pos c]
    have h : ¬ nI (n + ad) ≤ (-1 : Int32) := by
      rw [Int32.le_iff_toInt_le, nI_toInt (by omega)]
      have : (-1 : Int32).toInt = -1 := by decide
      omega
    exact ⟨fun z => absurd z h, fun z => absurd z (by omega)⟩
  · rw [if_neg c, nI_leI (by omega) (by omega)]
    omega
theorem la_total {post : Int32 → St1 → Prop} {f0 f1 f2 f3 f4 f5 : Int32} {f6 : Int64} {f7 : Int32} {a1 a2 a3 a4 a5 a6 a7 a8 : Nat → Int32} {a9 : Nat → Int64} {a10 : Nat → Int32} {a11 : Nat → Int64} {a12 a13 a14 a15 a16 a17 a18 a19 a20 : Nat → Int32} {fl : Bool} {ad L S s i w : Nat} {sh sl : Nat → Nat} {si N : Nat → Nat → Nat} (hW : la_WL L S sh sl si N) (ha : ad ≤ 63) (h2 : f2 = nI L) (hR : la_RL fl ad L S sh sl si N a4 a5 a6 a7 a8) (hs : s < S) (hi : i < sl s) (hb : si s i = 1000) (hw : w < 3)
    (H : ∀ fr b17, post (if w = 0 then la_v ad (la_mn N sh s i L) 1000 else if w = 1 then la_v ad (la_mx N sh s i L) (-1) else nI (la_sum N sh s i L + ad * la_ct sh s L)) (f0, f1, f2, f3, f4, f5, f6, fr, a1, a2, a3, a4, a5, a6, a7, a8, a9, a10, a11, a12, a13, a14, a15, a16, b17, a18, a19, a20)) : wpX_totalIn post (f0, f1, f2, f3, f4, f5, f6, f7, a1, a2, a3, a4, a5, a6, a7, a8, a9, a10, a11, a12, a13, a14, a15, a16, a17, a18, a19, a20) (nI s) (nI i) (nI w) := by
  have hW' := hW
  have hR' := hR
  obtain ⟨w1, w2, w3, w4, w5, w6⟩ := hW
  obtain ⟨r1, r2, r3, r4⟩ := hR
  have hs8 := w4 s hs
  subst h2
  unfold wpX_totalIn
  refine la_clear (fun b17 hb17 => ?_)
  refine pk_loop (σ := Int32 × (Nat → Int32)) (fun k l t => wX_totalIn_18 post (nI s) (nI i) (nI w) k (la_v ad (la_mn N sh s i l) 1000) (la_v ad (la_mx N sh s i l) (-1)) (nI (la_sum N sh s i l + ad * la_ct sh s l)) (nI l) f0 f1 (nI L) f3 f4 f5 f6 t.1 a1 a2 a3 a4 a5 a6 a7 a8 a9 a10 a11 a12 a13 a14 a15 a16 t.2 a18 a19 a20) (fun l t => la_NA ad sh sl si N l s t.2) L 0 (f7, b17) (by omega) (la_NA_0 hs8.2 hb17) ?_ ?_
  · intro k t hN
    refine pk_le L L (fun _ => ?_) (fun z => absurd z (by omega))
    have H' := H t.1 t.2
    refine pk_eq w 0 (fun z => ?_) (fun z => pk_eq w 1 (fun z1 => ?_) (fun z1 => ?_))
    · rw [if_pos z] at H'
      exact H'
    · rw [if_neg z, if_pos z1] at H'
      exact H'
    · rw [if_neg z, if_neg z1] at H'
      exact H'
  · intro k l t hl hN hw'
    have hsl := w3 l hl
    refine pk_le L l (fun z => absurd z (by omega)) (fun _ => ⟨pk_in l 60 (by omega), ?_⟩)
    rw [nI_clamp (by omega), r1 l hl]
    by_cases c : sh l = s
    · refine br_t (by rw [c]) (la_al hW' hR' hl c hN (fun fr b hb' => ⟨pk_in i 8 (by omega), ?_⟩))
      have e17 : b i = nI (N l i + ad) := la_NA_at c hb' hi hb
      have hN9 := w6 l i hl
      have m1 := la_mn_le (N := N) (sh := sh) (s := s) (i := i) w6 l (by omega)
      have m2 := la_mx_le (N := N) (sh := sh) (s := s) (i := i) w6 l (by omega)
      have fin : wX_totalIn_18 post (nI s) (nI i) (nI w) k (la_v ad (la_mn N sh s i (l + 1)) 1000) (la_v ad (la_mx N sh s i (l + 1)) (-1)) (nI (la_sum N sh s i (l + 1) + ad * la_ct sh s (l + 1))) (nI (l + 1)) f0 f1 (nI L) f3 f4 f5 f6 fr a1 a2 a3 a4 a5 a6 a7 a8 a9 a10 a11 a12 a13 a14 a15 a16 b a18 a19 a20 := hw' (fr, b) hb'
      have es : nI (la_sum N sh s i l + ad * la_ct sh s l) + nI (N l i + ad) = nI (la_sum N sh s i (l + 1) + ad * la_ct sh s (l + 1)) := by
        rw [nI_add]
        congr 1
        show la_sum N sh s i l + ad * la_ct sh s l + (N l i + ad) = (if sh l = s then la_sum N sh s i l + N l i else la_sum N sh s i l) + ad * (if sh l = s then la_ct sh s l + 1 else la_ct sh s l)
        rw [if_pos c, if_pos c, Nat.mul_add]
        omega
      have emn : la_v ad (la_mn N sh s i (l + 1)) 1000 = if la_mn N sh s i l = 0 ∨ N l i + 1 < la_mn N sh s i l then nI (N l i + ad) else la_v ad (la_mn N sh s i l) 1000 := by
        show la_v ad (if sh l = s then (if la_mn N sh s i l = 0 ∨ N l i + 1 < la_mn N sh s i l then N l i + 1 else la_mn N sh s i l) else la_mn N sh s i l) 1000 = _
        rw [if_pos c]
        split
        · rfl
        · rfl
      have emx : la_v ad (la_mx N sh s i (l + 1)) (-1) = if la_mx N sh s i l < N l i + 1 then nI (N l i + ad) else la_v ad (la_mx N sh s i l) (-1) := by
        show la_v ad (if sh l = s then (if la_mx N sh s i l < N l i + 1 then N l i + 1 else la_mx N sh s i l) else la_mx N sh s i l) (-1) = _
        rw [if_pos c]
        split
        · rfl
        · rfl
      have c2 : ∀ z0 : Int32, z0 = la_v ad (la_mn N sh s i (l + 1)) 1000 → wX_totalIn_67 post (wX_totalIn_18 post (nI s) (nI i) (nI w) k) (nI s) (nI i) (nI w) (la_v ad (la_mx N sh s i l) (-1)) (nI (la_sum N sh s i l + ad * la_ct sh s l)) (nI l) z0 f0 f1 (nI L) f3 f4 f5 f6 fr a1 a2 a3 a4 a5 a6 a7 a8 a9 a10 a11 a12 a13 a14 a15 a16 b a18 a19 a20 := by
        intro z0 ez
        rw [ez]
        unfold wX_totalIn_67
        refine ⟨pk_in i 8 (by omega), ?_⟩
        rw [nI_clamp (by omega), e17]
        by_cases cx : la_mx N sh s i l < N l i + 1
        · rw [if_pos cx] at emx
          rw [emx] at fin
          refine br_f (fun z => (la_v_mx ha m2 hN9).mp z cx) ⟨pk_in i 8 (by omega), ?_⟩
          unfold wX_totalIn_91
          refine ⟨pk_in i 8 (by omega), ?_⟩
          rw [nI_clamp (by omega), e17]
          exact nm_r es (nm_r (nI_1 l) fin)
        · rw [if_neg cx] at emx
          rw [emx] at fin
          refine br_t ((la_v_mx ha m2 hN9).mpr cx) ?_
          unfold wX_totalIn_91
          refine ⟨pk_in i 8 (by omega), ?_⟩
          rw [nI_clamp (by omega), e17]
          exact nm_r es (nm_r (nI_1 l) fin)
      rw [nI_clamp (by omega), e17]
      by_cases cn : la_mn N sh s i l = 0 ∨ N l i + 1 < la_mn N sh s i l
      · rw [if_pos cn] at emn
        exact br_f (fun z => (la_v_mn ha m1 hN9).mp z cn) ⟨pk_in i 8 (by omega), c2 _ emn.symm⟩
      · rw [if_neg cn] at emn
        exact br_t ((la_v_mn ha m1 hN9).mpr cn) (c2 _ emn.symm)
    · have fin : wX_totalIn_18 post (nI s) (nI i) (nI w) k (la_v ad (la_mn N sh s i (l + 1)) 1000) (la_v ad (la_mx N sh s i (l + 1)) (-1)) (nI (la_sum N sh s i (l + 1) + ad * la_ct sh s (l + 1))) (nI (l + 1)) f0 f1 (nI L) f3 f4 f5 f6 t.1 a1 a2 a3 a4 a5 a6 a7 a8 a9 a10 a11 a12 a13 a14 a15 a16 t.2 a18 a19 a20 := hw' t (la_NA_skip c hN)
      have e1 : la_mn N sh s i (l + 1) = la_mn N sh s i l := if_neg c
      have e2 : la_mx N sh s i (l + 1) = la_mx N sh s i l := if_neg c
      have e3 : la_sum N sh s i (l + 1) = la_sum N sh s i l := if_neg c
      have e4 : la_ct sh s (l + 1) = la_ct sh s l := if_neg c
      rw [e1, e2, e3, e4] at fin
      exact pk_eq (sh l) s (fun z => absurd z c) (fun _ => nm_r (nI_1 l) fin)
/-! the row of different numbers -/
def la_rows (ad n : Nat) (R : Nat → Nat) (b : Nat → Int32) : Prop := ∀ k, k < n → b k = nI (R k + ad)
theorem la_insert (n : Nat) (hn : n ≤ 60) (R : Nat → Nat) (hR : ∀ k, k < n → R k ≤ 910) (v : Nat) (hv : v ≤ 910) : ∃ (n' : Nat) (R' : Nat → Nat), n' ≤ n + 1 ∧ (∀ k, k < n' → R' k ≤ 910) ∧ ∀ (post : Int32 → St1 → Prop) (ad : Nat) (f0 f1 f2 f3 f4 f5 : Int32) (f6 : Int64) (f7 : Int32) (a1 a2 a3 a4 a5 a6 a7 a8 : Nat → Int32) (a9 : Nat → Int64) (a10 : Nat → Int32) (a11 : Nat → Int64) (a12 a13 a14 a15 a16 a17 a18 a19 a20 : Nat → Int32), ad ≤ 63 → la_rows ad n R a18 →
    (∀ b18, la_rows ad n' R' b18 → post (nI n') (f0, f1, f2, f3, f4, f5, f6, f7, a1, a2, a3, a4, a5, a6, a7, a8, a9, a10, a11, a12, a13, a14, a15, a16, a17, b18, a19, a20)) → wpX_insert post (f0, f1, f2, f3, f4, f5, f6, f7, a1, a2, a3, a4, a5, a6, a7, a8, a9, a10, a11, a12, a13, a14, a15, a16, a17, a18, a19, a20) (nI n) (nI (v + ad)) := by
  have srch : ∀ k, k ≤ n → ∃ k', k' ≤ n ∧ ∀ (post : Int32 → St1 → Prop) (ad : Nat) (f0 f1 f2 f3 f4 f5 : Int32) (f6 : Int64) (f7 : Int32) (a1 a2 a3 a4 a5 a6 a7 a8 : Nat → Int32) (a9 : Nat → Int64) (a10 : Nat → Int32) (a11 : Nat → Int64) (a12 a13 a14 a15 a16 a17 a18 a19 a20 : Nat → Int32), ad ≤ 63 → la_rows ad n R a18 → wX_insert_24 post (nI n) (nI (v + ad)) (nI k') f0 f1 f2 f3 f4 f5 f6 f7 a1 a2 a3 a4 a5 a6 a7 a8 a9 a10 a11 a12 a13 a14 a15 a16 a17 a18 a19 a20 → wX_insert_2 post (nI n) (nI (v + ad)) f0 f1 f2 f3 f4 f5 f6 f7 a1 a2 a3 a4 a5 a6 a7 a8 a9 a10 a11 a12 a13 a14 a15 a16 a17 a18 a19 a20 (k + 1) (nI k) := by
    intro k
    induction k with
    | zero =>
      intro hk
      refine ⟨0, by omega, ?_⟩
      intro post ad f0 f1 f2 f3 f4 f5 f6 f7 a1 a2 a3 a4 a5 a6 a7 a8 a9 a10 a11 a12 a13 a14 a15 a16 a17 a18 a19 a20 ha hr h
      exact pk_le 0 0 (fun _ => h) (fun z => absurd z (by omega))
    | succ k ih =>
      intro hk
      by_cases c : R k < v
      · refine ⟨k + 1, hk, ?_⟩
        intro post ad f0 f1 f2 f3 f4 f5 f6 f7 a1 a2 a3 a4 a5 a6 a7 a8 a9 a10 a11 a12 a13 a14 a15 a16 a17 a18 a19 a20 ha hr h
        refine pk_le (k + 1) 0 (fun z => absurd z (by omega)) (fun _ => ⟨pk_in k 480 (by omega) (hx := nI_pred k), ?_⟩)
        have hRk := hR k (by omega)
        rw [nI_pred, nI_clamp (by omega), hr k (by omega)]
        exact pk_lt (R k + ad) (v + ad) (fun _ => h) (fun z => absurd z (by omega))
      · obtain ⟨k', h1, h2⟩ := ih (by omega)
        refine ⟨k', h1, ?_⟩
        intro post ad f0 f1 f2 f3 f4 f5 f6 f7 a1 a2 a3 a4 a5 a6 a7 a8 a9 a10 a11 a12 a13 a14 a15 a16 a17 a18 a19 a20 ha hr h
        have t := h2 post ad f0 f1 f2 f3 f4 f5 f6 f7 a1 a2 a3 a4 a5 a6 a7 a8 a9 a10 a11 a12 a13 a14 a15 a16 a17 a18 a19 a20 ha hr h
        refine pk_le (k + 1) 0 (fun z => absurd z (by omega)) (fun _ => ⟨pk_in k 480 (by omega) (hx := nI_pred k), ?_⟩)
        have hRk := hR k (by omega)
        rw [nI_pred, nI_clamp (by omega), hr k (by omega)]
        exact pk_lt (R k + ad) (v + ad) (fun z => absurd z (by omega)) (fun _ => nm_r (pk_m1 k) t)
  obtain ⟨k', hk', hk⟩ := srch n (Nat.le_refl n)
  by_cases same : k' < n ∧ R k' = v
  · refine ⟨n, R, by omega, hR, ?_⟩
    intro post ad f0 f1 f2 f3 f4 f5 f6 f7 a1 a2 a3 a4 a5 a6 a7 a8 a9 a10 a11 a12 a13 a14 a15 a16 a17 a18 a19 a20 ha hr h
    refine ⟨n + 1, hk post ad f0 f1 f2 f3 f4 f5 f6 f7 a1 a2 a3 a4 a5 a6 a7 a8 a9 a10 a11 a12 a13 a14 a15 a16 a17 a18 a19 a20 ha hr ?_⟩
    unfold wX_insert_24
    refine pk_le n k' (fun z => absurd z (by omega)) (fun _ => ⟨pk_in k' 480 (by omega), ?_⟩)
    rw [nI_clamp (by omega), hr k' same.1, same.2]
    exact br_t rfl (h a18 hr)
  · refine ⟨n + 1, fun j => if j < k' then R j else if j = k' then v else R (j - 1), by omega, ?_, ?_⟩
    · intro k hk
      show (if k < k' then R k else if k = k' then v else R (k - 1)) ≤ 910
      split
      · exact hR k (by omega)
      · split
        · exact hv
        · exact hR _ (by omega)
    intro post ad f0 f1 f2 f3 f4 f5 f6 f7 a1 a2 a3 a4 a5 a6 a7 a8 a9 a10 a11 a12 a13 a14 a15 a16 a17 a18 a19 a20 ha hr h
    have shift : ∀ d j (b : Nat → Int32), j = k' + d → j ≤ n → (∀ m, m < j → b m = nI (R m + ad)) → (∀ m, j < m → m ≤ n → b m = nI (R (m - 1) + ad)) → wX_insert_44 post (nI n) (nI (v + ad)) (nI k') f0 f1 f2 f3 f4 f5 f6 f7 (d + 1) (nI j) a1 a2 a3 a4 a5 a6 a7 a8 a9 a10 a11 a12 a13 a14 a15 a16 a17 b a19 a20 := by
      intro d
      induction d with
      | zero =>
        intro j b hj hjn hb1 hb2
        refine pk_le j k' (fun _ => ⟨pk_in k' 480 (by omega), ?_⟩) (fun z => absurd z (by omega))
        rw [nI_clamp (by omega), nI_1]
        refine nm_e (h _ ?_)
        intro m hm
        show upd b k' (nI (v + ad)) m = nI ((if m < k' then R m else if m = k' then v else R (m - 1)) + ad)
        by_cases e : m = k'
        · rw [e, pk_us, if_neg (by omega), if_pos rfl]
        · rw [pk_un e]
          by_cases e2 : m < k'
          · rw [if_pos e2]
            exact hb1 m (by omega)
          · rw [if_neg e2, if_neg e]
            exact hb2 m (by omega) (by omega)
      | succ d ih =>
        intro j b hj hjn hb1 hb2
        obtain ⟨i, rfl⟩ : ∃ i, j = i + 1 := ⟨j - 1, by omega⟩
        refine pk_le (i + 1) k' (fun z => absurd z (by omega)) (fun _ => ⟨pk_in i 480 (by omega) (hx := nI_pred i), pk_in (i + 1) 480 (by omega), ?_⟩)
        rw [nI_pred, nI_clamp (by omega), nI_clamp (by omega)]
        refine nm_e (nm_r (pk_m1 i) (ih i _ (by omega) (by omega) (fun m hm => ?_) (fun m hm hm2 => ?_)))
        · rw [pk_un (by omega)]
          exact hb1 m (by omega)
        · by_cases e : m = i + 1
          · rw [e, pk_us, hb1 i (by omega)]
            rfl
          · rw [pk_un e]
            exact hb2 m (by omega) hm2
    have s44 := shift (n - k') n a18 (by omega) (Nat.le_refl n) hr (fun m h1 h2 => absurd h1 (by omega))
    refine ⟨n + 1, hk post ad f0 f1 f2 f3 f4 f5 f6 f7 a1 a2 a3 a4 a5 a6 a7 a8 a9 a10 a11 a12 a13 a14 a15 a16 a17 a18 a19 a20 ha hr ?_⟩
    unfold wX_insert_24
    refine pk_le n k' (fun _ => ⟨_, s44⟩) (fun z => ⟨pk_in k' 480 (by omega), ?_⟩)
    have hRk := hR k' (by omega)
    rw [nI_clamp (by omega), hr k' z]
    exact pk_eq (R k' + ad) (v + ad) (fun z2 => absurd ⟨z, by omega⟩ same) (fun _ => ⟨_, s44⟩)
theorem la_diff (L S : Nat) (sh sl : Nat → Nat) (si N : Nat → Nat → Nat) (hW : la_WL L S sh sl si N) (s : Nat) (hs : s < S) (i : Nat) (hi : i < sl s) (hb : si s i = 1000) : ∃ r : Int32, ∀ (post : Int32 → St1 → Prop) (fl : Bool) (ad : Nat) (f0 f1 f2 f3 f4 f5 : Int32) (f6 : Int64) (f7 : Int32) (a1 a2 a3 a4 a5 a6 a7 a8 : Nat → Int32) (a9 : Nat → Int64) (a10 : Nat → Int32) (a11 : Nat → Int64) (a12 a13 a14 a15 a16 a17 a18 a19 a20 : Nat → Int32), ad ≤ 63 → f2 = nI L → la_RL fl ad L S sh sl si N a4 a5 a6 a7 a8 →
    (∀ fr b17 b18, post r (f0, f1, f2, f3, f4, f5, f6, fr, a1, a2, a3, a4, a5, a6, a7, a8, a9, a10, a11, a12, a13, a14, a15, a16, b17, b18, a19, a20)) → wpX_differentIn post (f0, f1, f2, f3, f4, f5, f6, f7, a1, a2, a3, a4, a5, a6, a7, a8, a9, a10, a11, a12, a13, a14, a15, a16, a17, a18, a19, a20) (nI s) (nI i) := by
  have hW' := hW
  obtain ⟨w1, w2, w3, w4, w5, w6⟩ := hW
  have hs8 := w4 s hs
  have key : ∀ k l n (R : Nat → Nat), l + k = L → n ≤ l → (∀ k, k < n → R k ≤ 910) → ∃ r : Int32, ∀ (post : Int32 → St1 → Prop) (fl : Bool) (ad : Nat) (f0 f1 f2 f3 f4 f5 : Int32) (f6 : Int64) (f7 : Int32) (a1 a2 a3 a4 a5 a6 a7 a8 : Nat → Int32) (a9 : Nat → Int64) (a10 : Nat → Int32) (a11 : Nat → Int64) (a12 a13 a14 a15 a16 a17 a18 a19 a20 : Nat → Int32), ad ≤ 63 → f2 = nI L → la_RL fl ad L S sh sl si N a4 a5 a6 a7 a8 →
      la_NA ad sh sl si N l s a17 → la_rows ad n R a18 → (∀ fr b17 b18, post r (f0, f1, f2, f3, f4, f5, f6, fr, a1, a2, a3, a4, a5, a6, a7, a8, a9, a10, a11, a12, a13, a14, a15, a16, b17, b18, a19, a20)) → wX_differentIn_9 post (nI s) (nI i) (k + 1) (nI n) (nI l) f0 f1 f2 f3 f4 f5 f6 f7 a1 a2 a3 a4 a5 a6 a7 a8 a9 a10 a11 a12 a13 a14 a15 a16 a17 a18 a19 a20 := by
    intro k
    induction k with
    | zero =>
      intro l n R hl hn hRR
      refine ⟨nI n, ?_⟩
      intro post fl ad f0 f1 f2 f3 f4 f5 f6 f7 a1 a2 a3 a4 a5 a6 a7 a8 a9 a10 a11 a12 a13 a14 a15 a16 a17 a18 a19 a20 ha h2 hR hN hr h
      subst h2
      exact pk_le L l (fun _ => h _ _ _) (fun z => absurd z (by omega))
    | succ k ih =>
      intro l n R hl hn hRR
      have hl' := w3 l (by omega)
      by_cases c : sh l = s
      · obtain ⟨n', R', hn', hR', hins⟩ := la_insert n (by omega) R hRR (N l i) (w6 l i (by omega))
        obtain ⟨r, hr'⟩ := ih (l + 1) n' R' (by omega) (by omega) hR'
        refine ⟨r, ?_⟩
        intro post fl ad f0 f1 f2 f3 f4 f5 f6 f7 a1 a2 a3 a4 a5 a6 a7 a8 a9 a10 a11 a12 a13 a14 a15 a16 a17 a18 a19 a20 ha h2 hR hN hr h
        have hR2 := hR
        obtain ⟨r1, r2, r3, r4⟩ := hR
        have fin := fun fr b17 b18 hb1 hb2 => hr' post fl ad f0 f1 f2 f3 f4 f5 f6 fr a1 a2 a3 a4 a5 a6 a7 a8 a9 a10 a11 a12 a13 a14 a15 a16 b17 b18 a19 a20 ha h2 hR2 hb1 hb2 (fun x y z => h x y z)
        subst h2
        refine pk_le L l (fun z => absurd z (by omega)) (fun _ => ⟨pk_in l 60 (by omega), ?_⟩)
        rw [nI_clamp (by omega), r1 l (by omega), c]
        refine br_t rfl (la_al hW' hR2 (by omega) c hN (fun fr b17 hb17 => ⟨pk_in i 8 (by omega), ?_⟩))
        rw [nI_clamp (by omega), la_NA_at c hb17 hi hb]
        exact hins _ ad f0 f1 (nI L) f3 f4 f5 f6 fr a1 a2 a3 a4 a5 a6 a7 a8 a9 a10 a11 a12 a13 a14 a15 a16 b17 a18 a19 a20 ha hr (fun b18 hb18 => nm_r (nI_1 l) (fin fr b17 b18 hb17 hb18))
      · obtain ⟨r, hr'⟩ := ih (l + 1) n R (by omega) (by omega) hRR
        refine ⟨r, ?_⟩
        intro post fl ad f0 f1 f2 f3 f4 f5 f6 f7 a1 a2 a3 a4 a5 a6 a7 a8 a9 a10 a11 a12 a13 a14 a15 a16 a17 a18 a19 a20 ha h2 hR hN hr h
        have fin := hr' post fl ad f0 f1 f2 f3 f4 f5 f6 f7 a1 a2 a3 a4 a5 a6 a7 a8 a9 a10 a11 a12 a13 a14 a15 a16 a17 a18 a19 a20 ha h2 hR (la_NA_skip c hN) hr h
        subst h2
        refine pk_le L l (fun z => absurd z (by omega)) (fun _ => ⟨pk_in l 60 (by omega), ?_⟩)
        rw [nI_clamp (by omega), hR.1 l (by omega)]
        exact pk_eq (sh l) s (fun z => absurd z c) (fun _ => nm_r (nI_1 l) fin)
  obtain ⟨r, hr⟩ := key L 0 0 (fun _ => 0) (by omega) (by omega) (fun k hk => absurd hk (by omega))
  refine ⟨r, ?_⟩
  intro post fl ad f0 f1 f2 f3 f4 f5 f6 f7 a1 a2 a3 a4 a5 a6 a7 a8 a9 a10 a11 a12 a13 a14 a15 a16 a17 a18 a19 a20 ha h2 hR h
  unfold wpX_differentIn
  exact la_clear (fun b17 hb17 => ⟨L + 1, hr post fl ad f0 f1 f2 f3 f4 f5 f6 f7 a1 a2 a3 a4 a5 a6 a7 a8 a9 a10 a11 a12 a13 a14 a15 a16 b17 a18 a19 a20 ha h2 hR (la_NA_0 hs8.2 hb17) (fun k hk => absurd hk (by omega)) (fun x y z => h x y z)⟩)
/-- the count of a shape's bits is the count of its lines -/
theorem la_ct_bits {x : Int64} {sh : Nat → Nat} {s L : Nat} (h : ∀ k, k < 60 → la_bit x k = if k < L ∧ sh k = s then 1 else 0) : ∀ n, n ≤ 60 → la_cnt x n = la_ct sh s (min n L) := by
  intro n
  induction n with
  | zero =>
    intro _
    rw [Nat.zero_min]
    rfl
  | succ n ih =>
    intro hn
    show la_cnt x n + la_bit x n = _
    rw [ih (by omega), h n (by omega)]
    by_cases c : n < L
    · rw [show min (n + 1) L = n + 1 by omega, show min n L = n by omega]
      show _ = if sh n = s then la_ct sh s n + 1 else la_ct sh s n
      by_cases e : sh n = s
      · rw [if_pos ⟨c, e⟩, if_pos e]
      · rw [if_neg (fun z => e z.2), if_neg e]
        rfl
    · rw [if_neg (fun z => c z.1), show min (n + 1) L = min n L by omega]
      rfl
end
section
/-! ===== writing: bytes, the tree, the shape of the draft ===== -/
theorem la_dec_c : ∀ u, u < 32 → ∀ v, v < 32 → la_dec (nI (2 * (32 * u + v))) = nI (32 * u + v) ∧ la_dec (nI (2 * (32 * u + v) + 1)) = -nI (32 * u + v + 1) := by decide +kernel
theorem la_dec_n (a : Nat) (ha : a < 1024) : la_dec (nI (2 * a)) = nI a ∧ la_dec (nI (2 * a + 1)) = -nI (a + 1) := by
  have h := la_dec_c (a / 32) (by omega) (a % 32) (by omega)
  rw [show 32 * (a / 32) + a % 32 = a by omega] at h
  exact h
theorem la_enc_c : ∀ u, u < 32 → ∀ v, v < 64 → 128 ≤ 64 * u + v → ¬ ((((nI (64 * u + v) &&& 127) ||| 128).toInt8.toInt32) &&& 255) < 128 ∧
    ((((((nI (64 * u + v) &&& 127) ||| 128).toInt8.toInt32) &&& 255) &&& 127) ||| (((((nI (64 * u + v)) >>> ((7 : Int32) &&& 31)).toInt8.toInt32) &&& 255) <<< ((7 : Int32) &&& 31))) = nI (64 * u + v) := by decide +kernel
theorem la_enc2 (c : Nat) (hc : c < 2048) (h : 128 ≤ c) : ¬ ((((nI c &&& 127) ||| 128).toInt8.toInt32) &&& 255) < 128 ∧
    ((((((nI c &&& 127) ||| 128).toInt8.toInt32) &&& 255) &&& 127) ||| (((((nI c) >>> ((7 : Int32) &&& 31)).toInt8.toInt32) &&& 255) <<< ((7 : Int32) &&& 31))) = nI c := by
  have h' := la_enc_c (c / 64) (by omega) (c % 64) (by omega)
  rw [show 64 * (c / 64) + c % 64 = c by omega] at h'
  exact h' h
theorem la_enc1 : ∀ c, c < 128 → (nI c).toInt8.toInt32 &&& 255 = nI c := by decide +kernel
theorem la_b16 {post : Int32 → St1 → Prop} {f0 f1 f2 f3 f4 f5 : Int32} {f6 : Int64} {f7 : Int32} {a1 a2 a3 a4 a5 a6 a7 a8 : Nat → Int32} {a9 : Nat → Int64} {a10 : Nat → Int32} {a11 : Nat → Int64} {a12 a13 a14 a15 a16 a17 a18 a19 a20 : Nat → Int32} (p c : Nat) (d : Int32) (hp : p + 1 < 960) (hc : c < 2048) (hd : la_dec (nI c) = d)
    (H : ∀ b6 p', p < p' → p' ≤ p + 2 → la_E b6 p d p' → (∀ j, j < p → b6 j = a6 j) → post (nI p') (f0, f1, f2, f3, f4, f5, f6, f7, a1, a2, a3, a4, a5, b6, a7, a8, a9, a10, a11, a12, a13, a14, a15, a16, a17, a18, a19, a20)) : wX_bringNumber_16 post (nI p) (nI c) f0 f1 f2 f3 f4 f5 f6 f7 a1 a2 a3 a4 a5 a6 a7 a8 a9 a10 a11 a12 a13 a14 a15 a16 a17 a18 a19 a20 := by
  unfold wX_bringNumber_16
  refine pk_le 128 c (fun z => ⟨pk_in p 960 (by omega), ?_⟩) (fun z => ⟨pk_in p 960 (by omega), ?_⟩)
  · rw [nI_clamp (by omega), nI_1, nI_clamp (by omega), show (2 : Int32) = nI 2 from rfl, nI_add]
    refine nm_e ⟨pk_in (p + 1) 960 hp, nm_e (H _ (p + 2) (by omega) (by omega) (Or.inr ⟨hp, ?_, rfl, ?_⟩) (fun j hj => ?_))⟩
    · rw [pk_un (by omega), pk_us]
      exact (la_enc2 c hc z).1
    · rw [pk_us, pk_un (show p ≠ p + 1 by omega), pk_us, (la_enc2 c hc z).2]
      exact hd
    · rw [pk_un (by omega), pk_un (by omega)]
  · rw [nI_clamp (by omega), nI_1]
    refine nm_e (H _ (p + 1) (by omega) (by omega) (Or.inl ⟨by omega, ?_, rfl, ?_⟩) (fun j hj => ?_))
    · rw [pk_us, la_enc1 c z]
      exact nI_lt (b := 128) z (by omega)
    · rw [pk_us, la_enc1 c z]
      exact hd
    · rw [pk_un (by omega)]
theorem la_bring {post : Int32 → St1 → Prop} {f0 f1 f2 f3 f4 f5 : Int32} {f6 : Int64} {f7 : Int32} {a1 a2 a3 a4 a5 a6 a7 a8 : Nat → Int32} {a9 : Nat → Int64} {a10 : Nat → Int32} {a11 : Nat → Int64} {a12 a13 a14 a15 a16 a17 a18 a19 a20 : Nat → Int32} (p x y : Nat) (hp : p + 1 < 960) (hx : x < 1000) (hy : y < 1000)
    (H : ∀ b6 p', p < p' → p' ≤ p + 2 → la_E b6 p (nI x - nI y) p' → (∀ j, j < p → b6 j = a6 j) → post (nI p') (f0, f1, f2, f3, f4, f5, f6, f7, a1, a2, a3, a4, a5, b6, a7, a8, a9, a10, a11, a12, a13, a14, a15, a16, a17, a18, a19, a20)) : wpX_bringNumber post (f0, f1, f2, f3, f4, f5, f6, f7, a1, a2, a3, a4, a5, a6, a7, a8, a9, a10, a11, a12, a13, a14, a15, a16, a17, a18, a19, a20) (nI p) (nI x - nI y) := by
  unfold wpX_bringNumber
  rcases Nat.lt_or_ge x y with h | h
  · obtain ⟨m, hm⟩ : ∃ m, y = x + m + 1 := ⟨y - x - 1, by omega⟩
    have ey : nI y = nI x + nI m + 1 := by rw [hm, nI_add, nI_1]
    have e1 : ((-2 : Int32) * (nI x - nI y)) - 1 = nI (2 * m + 1) := by
      have : nI (2 * m + 1) = 2 * nI m + 1 := by
        rw [show (2 : Int32) = nI 2 from rfl, pk_mul, nI_1]
      rw [this, ey]
      grind
    have e2 : -nI (m + 1) = nI x - nI y := by
      rw [← nI_1, ey]
      grind
    have hneg : ¬ (0 : Int32) ≤ nI x - nI y := by
      have := pk_sneg (a := x) (b := y) (by omega) h
      rw [Int32.le_iff_toInt_le]
      rw [Int32.lt_iff_toInt_lt] at this
      omega
    refine br_f hneg ?_
    rw [e1]
    exact la_b16 p (2 * m + 1) _ hp (by omega) (by rw [(la_dec_n m (by omega)).2, e2]) H
  · have e : nI x - nI y = nI (x - y) := pk_sub h
    rw [e] at H ⊢
    refine br_t (nI_pos' (by omega)) ?_
    rw [show (2 : Int32) = nI 2 from rfl, pk_mul]
    exact la_b16 p (2 * (x - y)) _ hp (by omega) (la_dec_n (x - y) (by omega)).1 H
/-- the tree: nodes, items, below, beside, endsHere, and the path of each node -/
abbrev la_T : Type := Nat × (Nat → Nat) × (Nat → Int32) × (Nat → Int32) × (Nat → Int32) × (Nat → List Nat)
def la_WT (T : la_T) (S : Nat) (sl : Nat → Nat) (si : Nat → Nat → Nat) : Prop :=
  1 ≤ T.1 ∧ T.2.2.2.2.2 0 = [] ∧ (∀ n, 0 < n → n < T.1 → la_si (T.2.1 n)) ∧
  (∀ n, n < T.1 → T.2.2.1 n = -1 ∨ ∃ m, 0 < m ∧ m < T.1 ∧ T.2.2.1 n = nI m ∧ T.2.2.2.2.2 m = T.2.2.2.2.2 n ++ [T.2.1 m]) ∧
  (∀ m, 0 < m → m < T.1 → T.2.2.2.1 m = -1 ∨ ∃ m', 0 < m' ∧ m' < m ∧ T.2.2.2.1 m = nI m' ∧ T.2.2.2.2.2 m' = (T.2.2.2.2.2 m).dropLast ++ [T.2.1 m']) ∧
  (∀ n, n < T.1 → T.2.2.2.2.1 n = -1 ∨ ∃ s, s < S ∧ T.2.2.2.2.1 n = nI s ∧ sl s = (T.2.2.2.2.2 n).length ∧ ∀ i, i < sl s → si s i = (T.2.2.2.2.2 n).getD i 0)
def la_RT (fl : Bool) (T : la_T) (f4 : Int32) (a12 a13 a14 a15 : Nat → Int32) : Prop :=
  f4 = nI T.1 ∧ (∀ j, 0 < j → j < T.1 → a12 j = nI (la_S fl (T.2.1 j))) ∧ a13 = T.2.2.1 ∧ a14 = T.2.2.2.1 ∧ a15 = T.2.2.2.2.1
theorem la_newNode {post : Int32 → St1 → Prop} {f0 f1 f2 f3 f4 f5 : Int32} {f6 : Int64} {f7 : Int32} {a1 a2 a3 a4 a5 a6 a7 a8 : Nat → Int32} {a9 : Nat → Int64} {a10 : Nat → Int32} {a11 : Nat → Int64} {a12 a13 a14 a15 a16 a17 a18 a19 a20 : Nat → Int32} {x : Int32} (nd : Nat) (h : nd < 484) (H : post (nI nd) (f0, f1, f2, f3, nI (nd + 1), f5, f6, f7, a1, a2, a3, a4, a5, a6, a7, a8, a9, a10, a11, upd a12 nd x, upd a13 nd (-1), upd a14 nd (-1), upd a15 nd (-1), a16, a17, a18, a19, a20)) : wpX_newNode post (f0, f1, f2, f3, nI nd, f5, f6, f7, a1, a2, a3, a4, a5, a6, a7, a8, a9, a10, a11, a12, a13, a14, a15, a16, a17, a18, a19, a20) x := by
  unfold wpX_newNode
  dsimp only
  rw [nI_clamp (by omega)]
  refine ⟨pk_in nd 484 h, nm_e ⟨pk_in nd 484 h, nm_e ⟨pk_in nd 484 h, nm_e ⟨pk_in nd 484 h, nm_e (nm_r (nI_1 nd) ?_)⟩⟩⟩⟩
  rw [nI_pred]
  exact H
theorem la_m1 : ((-1 : Int32) < 0) ∧ ¬ (0 : Int32) ≤ -1 := by decide
theorem la_search (T : la_T) (S : Nat) (sl : Nat → Nat) (si : Nat → Nat → Nat) (hT : la_WT T S sl si) (h484 : T.1 ≤ 484) (n x : Nat) (hx : la_si x) : ∀ m, 0 < m → m < T.1 → T.2.2.2.2.2 m = T.2.2.2.2.2 n ++ [T.2.1 m] →
    (∃ m', 0 < m' ∧ m' < T.1 ∧ T.2.2.2.2.2 m' = T.2.2.2.2.2 n ++ [x] ∧ ∀ (post : Int32 → St1 → Prop) (fl : Bool) (x1 : Int32) (f0 f1 f2 f3 f4 f5 : Int32) (f6 : Int64) (f7 : Int32) (a1 a2 a3 a4 a5 a6 a7 a8 : Nat → Int32) (a9 : Nat → Int64) (a10 : Nat → Int32) (a11 : Nat → Int64) (a12 a13 a14 a15 a16 a17 a18 a19 a20 : Nat → Int32), la_RT fl T f4 a12 a13 a14 a15 → wX_stepTo_31 post x1 (nI (la_S fl x)) (nI m') f0 f1 f2 f3 f4 f5 f6 f7 a1 a2 a3 a4 a5 a6 a7 a8 a9 a10 a11 a12 a13 a14 a15 a16 a17 a18 a19 a20 → ∃ k, wX_stepTo_7 post x1 (nI (la_S fl x)) f0 f1 f2 f3 f4 f5 f6 f7 a1 a2 a3 a4 a5 a6 a7 a8 a9 a10 a11 a12 a13 a14 a15 a16 a17 a18 a19 a20 k (nI m)) ∨
    (∀ (post : Int32 → St1 → Prop) (fl : Bool) (x1 : Int32) (f0 f1 f2 f3 f4 f5 : Int32) (f6 : Int64) (f7 : Int32) (a1 a2 a3 a4 a5 a6 a7 a8 : Nat → Int32) (a9 : Nat → Int64) (a10 : Nat → Int32) (a11 : Nat → Int64) (a12 a13 a14 a15 a16 a17 a18 a19 a20 : Nat → Int32), la_RT fl T f4 a12 a13 a14 a15 → wX_stepTo_31 post x1 (nI (la_S fl x)) (-1) f0 f1 f2 f3 f4 f5 f6 f7 a1 a2 a3 a4 a5 a6 a7 a8 a9 a10 a11 a12 a13 a14 a15 a16 a17 a18 a19 a20 → ∃ k, wX_stepTo_7 post x1 (nI (la_S fl x)) f0 f1 f2 f3 f4 f5 f6 f7 a1 a2 a3 a4 a5 a6 a7 a8 a9 a10 a11 a12 a13 a14 a15 a16 a17 a18 a19 a20 k (nI m)) := by
  obtain ⟨t1, t2, t3, t4, t5, t6⟩ := hT
  intro m
  induction m using Nat.strongRecOn with
  | ind m ih =>
    intro h0 hm hp
    have hsi := t3 m h0 hm
    by_cases c : T.2.1 m = x
    · refine Or.inl ⟨m, h0, hm, by rw [hp, c], ?_⟩
      intro post fl x1 f0 f1 f2 f3 f4 f5 f6 f7 a1 a2 a3 a4 a5 a6 a7 a8 a9 a10 a11 a12 a13 a14 a15 a16 a17 a18 a19 a20 hR h
      refine ⟨1, br_f (nI_pos (by omega)) ⟨pk_in m 484 (by omega), ?_⟩⟩
      rw [nI_clamp (by omega), hR.2.1 m h0 hm, c]
      exact br_t rfl h
    · have ne : ∀ fl, ¬ nI (la_S fl (T.2.1 m)) = nI (la_S fl x) := by
        intro fl z
        rw [nI_eq (la_si_lt (la_S_ok hsi)) (la_si_lt (la_S_ok hx)), la_S_inj hsi hx] at z
        exact c z
      rcases t5 m h0 hm with e | ⟨m', m1, m2, e, ep⟩
      · refine Or.inr ?_
        intro post fl x1 f0 f1 f2 f3 f4 f5 f6 f7 a1 a2 a3 a4 a5 a6 a7 a8 a9 a10 a11 a12 a13 a14 a15 a16 a17 a18 a19 a20 hR h
        refine ⟨2, br_f (nI_pos (by omega)) ⟨pk_in m 484 (by omega), ?_⟩⟩
        rw [nI_clamp (by omega), hR.2.1 m h0 hm, hR.2.2.2.1, e]
        exact br_f (ne fl) ⟨pk_in m 484 (by omega), nm_e (br_t la_m1.1 (hR.2.2.2.1 ▸ h))⟩
      · have hp' : T.2.2.2.2.2 m' = T.2.2.2.2.2 n ++ [T.2.1 m'] := by
          rw [ep, hp, List.dropLast_concat]
        rcases ih m' m2 m1 (by omega) hp' with ⟨r, r1, r2, r3, r4⟩ | r4
        · refine Or.inl ⟨r, r1, r2, r3, ?_⟩
          intro post fl x1 f0 f1 f2 f3 f4 f5 f6 f7 a1 a2 a3 a4 a5 a6 a7 a8 a9 a10 a11 a12 a13 a14 a15 a16 a17 a18 a19 a20 hR h
          obtain ⟨k, hk⟩ := r4 post fl x1 f0 f1 f2 f3 f4 f5 f6 f7 a1 a2 a3 a4 a5 a6 a7 a8 a9 a10 a11 a12 a13 a14 a15 a16 a17 a18 a19 a20 hR h
          have h14 := hR.2.2.2.1
          have h12 := hR.2.1 m h0 hm
          refine ⟨k + 1, br_f (nI_pos (by omega)) ⟨pk_in m 484 (by omega), ?_⟩⟩
          rw [nI_clamp (by omega), h12]
          exact br_f (ne fl) ⟨pk_in m 484 (by omega), nm_r (by rw [h14]; exact e) hk⟩
        · refine Or.inr ?_
          intro post fl x1 f0 f1 f2 f3 f4 f5 f6 f7 a1 a2 a3 a4 a5 a6 a7 a8 a9 a10 a11 a12 a13 a14 a15 a16 a17 a18 a19 a20 hR h
          obtain ⟨k, hk⟩ := r4 post fl x1 f0 f1 f2 f3 f4 f5 f6 f7 a1 a2 a3 a4 a5 a6 a7 a8 a9 a10 a11 a12 a13 a14 a15 a16 a17 a18 a19 a20 hR h
          have h14 := hR.2.2.2.1
          have h12 := hR.2.1 m h0 hm
          refine ⟨k + 1, br_f (nI_pos (by omega)) ⟨pk_in m 484 (by omega), ?_⟩⟩
          rw [nI_clamp (by omega), h12]
          exact br_f (ne fl) ⟨pk_in m 484 (by omega), nm_r (by rw [h14]; exact e) hk⟩
theorem la_step (T : la_T) (S : Nat) (sl : Nat → Nat) (si : Nat → Nat → Nat) (hT : la_WT T S sl si) (h484 : T.1 < 484) (n x : Nat) (hn : n < T.1) (hx : la_si x) : ∃ (m : Nat) (T' : la_T), la_WT T' S sl si ∧ m < T'.1 ∧ T'.1 ≤ T.1 + 1 ∧ T'.2.2.2.2.2 m = T.2.2.2.2.2 n ++ [x] ∧
    ∀ (post : Int32 → St1 → Prop) (fl : Bool) (f0 f1 f2 f3 f4 f5 : Int32) (f6 : Int64) (f7 : Int32) (a1 a2 a3 a4 a5 a6 a7 a8 : Nat → Int32) (a9 : Nat → Int64) (a10 : Nat → Int32) (a11 : Nat → Int64) (a12 a13 a14 a15 a16 a17 a18 a19 a20 : Nat → Int32), la_RT fl T f4 a12 a13 a14 a15 → (∀ g4 b12 b13 b14 b15, la_RT fl T' g4 b12 b13 b14 b15 → post (nI m) (f0, f1, f2, f3, g4, f5, f6, f7, a1, a2, a3, a4, a5, a6, a7, a8, a9, a10, a11, b12, b13, b14, b15, a16, a17, a18, a19, a20)) → wpX_stepTo post (f0, f1, f2, f3, f4, f5, f6, f7, a1, a2, a3, a4, a5, a6, a7, a8, a9, a10, a11, a12, a13, a14, a15, a16, a17, a18, a19, a20) (nI n) (nI (la_S fl x)) := by
  have new : ∃ (T' : la_T), la_WT T' S sl si ∧ T.1 < T'.1 ∧ T'.1 ≤ T.1 + 1 ∧ T'.2.2.2.2.2 T.1 = T.2.2.2.2.2 n ++ [x] ∧
      ∀ (post : Int32 → St1 → Prop) (fl : Bool) (f0 f1 f2 f3 f4 f5 : Int32) (f6 : Int64) (f7 : Int32) (a1 a2 a3 a4 a5 a6 a7 a8 : Nat → Int32) (a9 : Nat → Int64) (a10 : Nat → Int32) (a11 : Nat → Int64) (a12 a13 a14 a15 a16 a17 a18 a19 a20 : Nat → Int32), la_RT fl T f4 a12 a13 a14 a15 → (∀ g4 b12 b13 b14 b15, la_RT fl T' g4 b12 b13 b14 b15 → post (nI T.1) (f0, f1, f2, f3, g4, f5, f6, f7, a1, a2, a3, a4, a5, a6, a7, a8, a9, a10, a11, b12, b13, b14, b15, a16, a17, a18, a19, a20)) → wX_stepTo_31 post (nI n) (nI (la_S fl x)) (-1) f0 f1 f2 f3 f4 f5 f6 f7 a1 a2 a3 a4 a5 a6 a7 a8 a9 a10 a11 a12 a13 a14 a15 a16 a17 a18 a19 a20 := by
    obtain ⟨nd, ni, be, bs, eh, pth⟩ := T
    obtain ⟨t1, t2, t3, t4, t5, t6⟩ := hT
    dsimp only at t1 t2 t3 t4 t5 t6 h484 hn ⊢
    have nn : n ≠ nd := by omega
    refine ⟨(nd + 1, fun j => if j = nd then x else ni j, upd (upd be nd (-1)) n (nI nd), upd (upd bs nd (-1)) nd ((upd be nd (-1)) n), upd eh nd (-1), fun j => if j = nd then pth n ++ [x] else pth j), ⟨?_, ?_, ?_, ?_, ?_, ?_⟩, ?_, ?_, ?_, ?_⟩
    · show 1 ≤ nd + 1
      omega
    · show (if 0 = nd then pth n ++ [x] else pth 0) = []
      rw [if_neg (by omega)]
      exact t2
    · intro j h0 hj
      show la_si (if j = nd then x else ni j)
      have hj' : j < nd + 1 := hj
      split
      · exact hx
      · exact t3 j h0 (by omega)
    · intro j hj
      have hj' : j < nd + 1 := hj
      show upd (upd be nd (-1)) n (nI nd) j = -1 ∨ ∃ m, 0 < m ∧ m < nd + 1 ∧ upd (upd be nd (-1)) n (nI nd) j = nI m ∧ (if m = nd then pth n ++ [x] else pth m) = (if j = nd then pth n ++ [x] else pth j) ++ [if m = nd then x else ni m]
      by_cases e : j = n
      · refine Or.inr ⟨nd, by omega, by omega, ?_, ?_⟩
        · rw [e, pk_us]
        · rw [if_pos rfl, if_pos rfl, if_neg (by omega), e]
      · rw [pk_un e]
        by_cases e2 : j = nd
        · rw [e2, pk_us]
          exact Or.inl rfl
        · rw [pk_un e2]
          rcases t4 j (by omega) with a | ⟨m, a1, a2, a3, a4⟩
          · exact Or.inl a
          · refine Or.inr ⟨m, a1, by omega, a3, ?_⟩
            rw [if_neg (by omega), if_neg e2, if_neg (by omega)]
            exact a4
    · intro j h0 hj
      have hj' : j < nd + 1 := hj
      show upd (upd bs nd (-1)) nd ((upd be nd (-1)) n) j = -1 ∨ ∃ m', 0 < m' ∧ m' < j ∧ upd (upd bs nd (-1)) nd ((upd be nd (-1)) n) j = nI m' ∧ (if m' = nd then pth n ++ [x] else pth m') = (if j = nd then pth n ++ [x] else pth j).dropLast ++ [if m' = nd then x else ni m']
      by_cases e : j = nd
      · subst e
        rw [pk_us, pk_un nn, if_pos rfl, List.dropLast_concat]
        rcases t4 n hn with a | ⟨m, a1, a2, a3, a4⟩
        · exact Or.inl a
        · refine Or.inr ⟨m, a1, a2, a3, ?_⟩
          rw [if_neg (by omega), if_neg (by omega)]
          exact a4
      · rw [pk_un e, pk_un e, if_neg e]
        rcases t5 j h0 (by omega) with a | ⟨m, a1, a2, a3, a4⟩
        · exact Or.inl a
        · refine Or.inr ⟨m, a1, a2, a3, ?_⟩
          rw [if_neg (by omega), if_neg (by omega)]
          exact a4
    · intro j hj
      have hj' : j < nd + 1 := hj
      show upd eh nd (-1) j = -1 ∨ ∃ s, s < S ∧ upd eh nd (-1) j = nI s ∧ sl s = (if j = nd then pth n ++ [x] else pth j).length ∧ ∀ i, i < sl s → si s i = (if j = nd then pth n ++ [x] else pth j).getD i 0
      by_cases e : j = nd
      · rw [e, pk_us]
        exact Or.inl rfl
      · rw [pk_un e, if_neg e]
        exact t6 j (by omega)
    · show nd < nd + 1
      omega
    · exact Nat.le_refl _
    · show (if nd = nd then pth n ++ [x] else pth nd) = pth n ++ [x]
      rw [if_pos rfl]
    · intro post fl f0 f1 f2 f3 f4 f5 f6 f7 a1 a2 a3 a4 a5 a6 a7 a8 a9 a10 a11 a12 a13 a14 a15 a16 a17 a18 a19 a20 hR h
      obtain ⟨r1, r2, r3, r4, r5⟩ := hR
      dsimp only at r1 r2 r3 r4 r5
      subst r1 r3 r4 r5
      unfold wX_stepTo_31
      refine br_f la_m1.2 (la_newNode (f4 := 0) nd h484 ⟨pk_in n 484 (by omega), pk_in nd 484 h484, ?_⟩)
      rw [nI_clamp (by omega), nI_clamp (by omega)]
      refine nm_e ⟨pk_in n 484 (by omega), nm_e (h _ _ _ _ _ ⟨rfl, ?_, rfl, rfl, rfl⟩)⟩
      intro j h0 hj
      have hj' : j < nd + 1 := hj
      show upd a12 nd (nI (la_S fl x)) j = nI (la_S fl (if j = nd then x else ni j))
      by_cases e : j = nd
      · rw [e, pk_us, if_pos rfl]
      · rw [pk_un e, if_neg e]
        exact r2 j h0 (by omega)
  obtain ⟨T', n1, n2, n3, n4, n5⟩ := new
  rcases hT.2.2.2.1 n hn with e | ⟨m, m1, m2, e, ep⟩
  · refine ⟨T.1, T', n1, n2, n3, n4, ?_⟩
    intro post fl f0 f1 f2 f3 f4 f5 f6 f7 a1 a2 a3 a4 a5 a6 a7 a8 a9 a10 a11 a12 a13 a14 a15 a16 a17 a18 a19 a20 hR h
    have t := n5 post fl f0 f1 f2 f3 f4 f5 f6 f7 a1 a2 a3 a4 a5 a6 a7 a8 a9 a10 a11 a12 a13 a14 a15 a16 a17 a18 a19 a20 hR h
    unfold wpX_stepTo
    refine ⟨pk_in n 484 (by omega), ?_⟩
    rw [nI_clamp (by omega)]
    exact nm_r (by rw [hR.2.2.1]; exact e) ⟨1, br_t la_m1.1 t⟩
  · rcases la_search T S sl si hT (by omega) n x hx m m1 m2 ep with ⟨r, r1, r2, r3, r4⟩ | r4
    · refine ⟨r, T, hT, r2, by omega, r3, ?_⟩
      intro post fl f0 f1 f2 f3 f4 f5 f6 f7 a1 a2 a3 a4 a5 a6 a7 a8 a9 a10 a11 a12 a13 a14 a15 a16 a17 a18 a19 a20 hR h
      unfold wpX_stepTo
      refine ⟨pk_in n 484 (by omega), ?_⟩
      rw [nI_clamp (by omega)]
      refine nm_r (by rw [hR.2.2.1]; exact e) (r4 post fl (nI n) f0 f1 f2 f3 f4 f5 f6 f7 a1 a2 a3 a4 a5 a6 a7 a8 a9 a10 a11 a12 a13 a14 a15 a16 a17 a18 a19 a20 hR ?_)
      exact br_t (nI_pos' (by omega)) (h _ _ _ _ _ hR)
    · refine ⟨T.1, T', n1, n2, n3, n4, ?_⟩
      intro post fl f0 f1 f2 f3 f4 f5 f6 f7 a1 a2 a3 a4 a5 a6 a7 a8 a9 a10 a11 a12 a13 a14 a15 a16 a17 a18 a19 a20 hR h
      have t := n5 post fl f0 f1 f2 f3 f4 f5 f6 f7 a1 a2 a3 a4 a5 a6 a7 a8 a9 a10 a11 a12 a13 a14 a15 a16 a17 a18 a19 a20 hR h
      unfold wpX_stepTo
      refine ⟨pk_in n 484 (by omega), ?_⟩
      rw [nI_clamp (by omega)]
      exact nm_r (by rw [hR.2.2.1]; exact e) (r4 post fl (nI n) f0 f1 f2 f3 f4 f5 f6 f7 a1 a2 a3 a4 a5 a6 a7 a8 a9 a10 a11 a12 a13 a14 a15 a16 a17 a18 a19 a20 hR t)
def la_RD (fl : Bool) (ad dc : Nat) (dr : Nat → Nat) (a1 : Nat → Int32) : Prop := ∀ i, i < dc → a1 i = nI (la_I fl ad (dr i))
theorem la_walk (dc : Nat) (dr : Nat → Nat) (hdc : dc ≤ 8) (hdr : ∀ i, i < dc → la_it (dr i)) (T : la_T) (S : Nat) (sl : Nat → Nat) (si : Nat → Nat → Nat) (hT : la_WT T S sl si) (h484 : T.1 + dc ≤ 484) : ∀ i, i ≤ dc → ∃ (m : Nat) (T' : la_T), la_WT T' S sl si ∧ m < T'.1 ∧ T'.1 ≤ T.1 + i ∧ T'.2.2.2.2.2 m = (List.range i).map (fun j => la_bl (dr j)) ∧
    ∀ (post : Int32 → St1 → Prop) (fl : Bool) (ad K : Nat) (f0 f1 f2 f3 f4 f5 : Int32) (f6 : Int64) (f7 : Int32) (a1 a2 a3 a4 a5 a6 a7 a8 : Nat → Int32) (a9 : Nat → Int64) (a10 : Nat → Int32) (a11 : Nat → Int64) (a12 a13 a14 a15 a16 a17 a18 a19 a20 : Nat → Int32), ad ≤ 63 → f0 = nI dc → la_RD fl ad dc dr a1 → la_RT fl T f4 a12 a13 a14 a15 → (∀ g4 b12 b13 b14 b15, la_RT fl T' g4 b12 b13 b14 b15 → wX_shapeOfDraft_4 post K (nI m) (nI i) f0 f1 f2 f3 g4 f5 f6 f7 a1 a2 a3 a4 a5 a6 a7 a8 a9 a10 a11 b12 b13 b14 b15 a16 a17 a18 a19 a20) → wX_shapeOfDraft_4 post (K + i) 0 0 f0 f1 f2 f3 f4 f5 f6 f7 a1 a2 a3 a4 a5 a6 a7 a8 a9 a10 a11 a12 a13 a14 a15 a16 a17 a18 a19 a20 := by
  intro i
  induction i with
  | zero =>
    intro _
    refine ⟨0, T, hT, hT.1, by omega, hT.2.1, ?_⟩
    intro post fl ad K f0 f1 f2 f3 f4 f5 f6 f7 a1 a2 a3 a4 a5 a6 a7 a8 a9 a10 a11 a12 a13 a14 a15 a16 a17 a18 a19 a20 ha h0 hD hR h
    exact h _ _ _ _ _ hR
  | succ i ih =>
    intro hi
    obtain ⟨n, T1, u1, u2, u3, u4, u5⟩ := ih (by omega)
    have hit := hdr i (by omega)
    obtain ⟨m, T2, v1, v2, v3, v4, v5⟩ := la_step T1 S sl si u1 (by omega) n (la_bl (dr i)) u2 (la_bl_si hit)
    refine ⟨m, T2, v1, v2, by omega, ?_, ?_⟩
    · rw [v4, u4, List.range_succ, List.map_append]
      rfl
    intro post fl ad K f0 f1 f2 f3 f4 f5 f6 f7 a1 a2 a3 a4 a5 a6 a7 a8 a9 a10 a11 a12 a13 a14 a15 a16 a17 a18 a19 a20 ha h0 hD hR h
    have hlt := la_I_lt (fl := fl) ha hit
    rw [show K + (i + 1) = (K + 1) + i by omega]
    refine u5 post fl ad (K + 1) f0 f1 f2 f3 f4 f5 f6 f7 a1 a2 a3 a4 a5 a6 a7 a8 a9 a10 a11 a12 a13 a14 a15 a16 a17 a18 a19 a20 ha h0 hD hR (fun g4 b12 b13 b14 b15 hR1 => ?_)
    subst h0
    refine pk_le dc i (fun z => absurd z (by omega)) (fun _ => ⟨pk_in i 8 (by omega), ?_⟩)
    rw [nI_clamp (by omega), hD i (by omega)]
    refine la_blk _ (by omega) ?_
    rw [la_bl_I ha hit]
    exact v5 _ fl (nI dc) f1 f2 f3 g4 f5 f6 f7 a1 a2 a3 a4 a5 a6 a7 a8 a9 a10 a11 b12 b13 b14 b15 a16 a17 a18 a19 a20 hR1 (fun g4' b12' b13' b14' b15' hR2 => nm_r (nI_1 i) (h _ _ _ _ _ hR2))
end
section
/-! ===== the shape of the draft; a line written; all emptied ===== -/
def la_RS (fl : Bool) (ad L S : Nat) (sh sl : Nat → Nat) (si N : Nat → Nat → Nat) (sL : Nat → Int64) (a7 a8 : Nat → Int32) (a9 : Nat → Int64) (a10 : Nat → Int32) : Prop :=
  (∀ s, s < S → a7 s = nI (sl s)) ∧ (∀ s i, s < S → i < sl s → a8 (8 * s + i) = nI (la_S fl (si s i))) ∧ a9 = sL ∧
  (∀ s i, s < S → i < sl s → si s i = 1000 → a10 (8 * s + i) = nI (la_last (fun l i => N l i + ad) sh L s i))
theorem la_last_none {M : Nat → Nat → Nat} {sh : Nat → Nat} {s i : Nat} : ∀ l, (∀ k, k < l → ¬ sh k = s) → la_last M sh l s i = 0 := by
  intro l
  induction l with
  | zero => exact fun _ => rfl
  | succ l ih =>
    intro h
    show (if sh l = s then M l i else la_last M sh l s i) = 0
    rw [if_neg (h l (by omega))]
    exact ih (fun k hk => h k (by omega))
theorem la_last_cong {M M' : Nat → Nat → Nat} {sh sh' : Nat → Nat} {s i : Nat} : ∀ l, (∀ k, k < l → sh' k = sh k ∧ ∀ i, M' k i = M k i) → la_last M' sh' l s i = la_last M sh l s i := by
  intro l
  induction l with
  | zero => exact fun _ => rfl
  | succ l ih =>
    intro h
    show (if sh' l = s then M' l i else la_last M' sh' l s i) = (if sh l = s then M l i else la_last M sh l s i)
    rw [(h l (by omega)).1, (h l (by omega)).2 i, ih (fun k hk => h k (by omega))]
theorem la_last_le {M : Nat → Nat → Nat} {sh : Nat → Nat} {s i b : Nat} : ∀ l, (∀ k, k < l → M k i ≤ b) → la_last M sh l s i ≤ b := by
  intro l
  induction l with
  | zero => exact fun _ => Nat.zero_le _
  | succ l ih =>
    intro h
    show (if sh l = s then M l i else la_last M sh l s i) ≤ b
    split
    · exact h l (by omega)
    · exact ih (fun k hk => h k (by omega))
theorem la_mapget {f : Nat → Nat} {n i : Nat} (h : i < n) : ((List.range n).map f).getD i 0 = f i := by
  rw [List.getD_eq_getElem?_getD, List.getElem?_map, List.getElem?_range h]
  rfl
theorem la_shape (dc : Nat) (dr : Nat → Nat) (hdc : dc ≤ 8) (hdr : ∀ i, i < dc → la_it (dr i)) (L S : Nat) (sh sl : Nat → Nat) (si N : Nat → Nat → Nat) (hW : la_WL L S sh sl si N) (hL : L < 60) (sL : Nat → Int64) (T : la_T) (hT : la_WT T S sl si) (h484 : T.1 + dc ≤ 484) :
    ∃ (s S' : Nat) (sl' : Nat → Nat) (si' : Nat → Nat → Nat) (sL' : Nat → Int64) (T' : la_T), s < S' ∧ S ≤ S' ∧ S' ≤ S + 1 ∧ sl' s = dc ∧ (∀ i, i < dc → si' s i = la_bl (dr i)) ∧ (∀ s0, s0 < S → sl' s0 = sl s0 ∧ si' s0 = si s0 ∧ sL' s0 = sL s0) ∧ (∀ s0, S ≤ s0 → s0 < S' → s0 = s ∧ sL' s0 = 0) ∧ la_WT T' S' sl' si' ∧ T'.1 ≤ T.1 + dc ∧
    ∀ (post : Int32 → St1 → Prop) (fl : Bool) (ad : Nat) (f0 f1 f2 f3 f4 f5 : Int32) (f6 : Int64) (f7 : Int32) (a1 a2 a3 a4 a5 a6 a7 a8 : Nat → Int32) (a9 : Nat → Int64) (a10 : Nat → Int32) (a11 : Nat → Int64) (a12 a13 a14 a15 a16 a17 a18 a19 a20 : Nat → Int32), ad ≤ 63 → f0 = nI dc → la_RD fl ad dc dr a1 → f3 = nI S → la_RS fl ad L S sh sl si N sL a7 a8 a9 a10 → la_RT fl T f4 a12 a13 a14 a15 →
    (∀ g4 b7 b8 b9 b10 b12 b13 b14 b15, la_RS fl ad L S' sh sl' si' N sL' b7 b8 b9 b10 → la_RT fl T' g4 b12 b13 b14 b15 → post (nI s) (f0, f1, f2, nI S', g4, f5, f6, f7, a1, a2, a3, a4, a5, a6, b7, b8, b9, b10, a11, b12, b13, b14, b15, a16, a17, a18, a19, a20)) → wpX_shapeOfDraft post (f0, f1, f2, f3, f4, f5, f6, f7, a1, a2, a3, a4, a5, a6, a7, a8, a9, a10, a11, a12, a13, a14, a15, a16, a17, a18, a19, a20) := by
  obtain ⟨w1, w2, w3, w4, w5, w6⟩ := hW
  obtain ⟨m, T1, u1, u2, u3, u4, u5⟩ := la_walk dc dr hdc hdr T S sl si hT h484 dc (Nat.le_refl dc)
  have hlen : (T1.2.2.2.2.2 m).length = dc := by
    rw [u4, List.length_map, List.length_range]
  have hget : ∀ i, i < dc → (T1.2.2.2.2.2 m).getD i 0 = la_bl (dr i) := by
    intro i hi
    rw [u4, la_mapget hi]
  rcases u1.2.2.2.2.2 m u2 with e | ⟨s, s1, e, e2, e3⟩
  · refine ⟨S, S + 1, fun s0 => if s0 = S then dc else sl s0, fun s0 i => if s0 = S then la_bl (dr i) else si s0 i, vp_updL sL S 0, (T1.1, T1.2.1, T1.2.2.1, T1.2.2.2.1, upd T1.2.2.2.2.1 m (nI S), T1.2.2.2.2.2), by omega, by omega, by omega, if_pos rfl, fun i hi => if_pos rfl, ?_, ?_, ?_, u3, ?_⟩
    · intro s0 h0
      refine ⟨if_neg (by omega), ?_, pk_uLn (by omega)⟩
      funext i
      exact if_neg (by omega)
    · intro s0 h0 h1
      have e0 : s0 = S := by omega
      refine ⟨e0, ?_⟩
      rw [e0, pk_uLs]
    · obtain ⟨t1, t2, t3, t4, t5, t6⟩ := u1
      refine ⟨t1, t2, t3, t4, t5, ?_⟩
      intro j hj
      show upd T1.2.2.2.2.1 m (nI S) j = -1 ∨ ∃ s, s < S + 1 ∧ upd T1.2.2.2.2.1 m (nI S) j = nI s ∧ (if s = S then dc else sl s) = (T1.2.2.2.2.2 j).length ∧ ∀ i, i < (if s = S then dc else sl s) → (if s = S then la_bl (dr i) else si s i) = (T1.2.2.2.2.2 j).getD i 0
      by_cases ej : j = m
      · refine Or.inr ⟨S, by omega, ?_, ?_, ?_⟩
        · rw [ej, pk_us]
        · rw [if_pos rfl, ej, hlen]
        · intro i hi
          rw [if_pos rfl] at hi
          rw [if_pos rfl, ej, hget i hi]
      · rw [pk_un ej]
        rcases t6 j hj with a | ⟨s, a1, a2, a3, a4⟩
        · exact Or.inl a
        · refine Or.inr ⟨s, by omega, a2, ?_, ?_⟩
          · rw [if_neg (by omega)]
            exact a3
          · intro i hi
            rw [if_neg (by omega)] at hi
            rw [if_neg (by omega)]
            exact a4 i hi
    intro post fl ad f0 f1 f2 f3 f4 f5 f6 f7 a1 a2 a3 a4 a5 a6 a7 a8 a9 a10 a11 a12 a13 a14 a15 a16 a17 a18 a19 a20 ha h0 hD h3 hS hR h
    unfold wpX_shapeOfDraft
    refine ⟨1 + dc, u5 post fl ad 1 f0 f1 f2 f3 f4 f5 f6 f7 a1 a2 a3 a4 a5 a6 a7 a8 a9 a10 a11 a12 a13 a14 a15 a16 a17 a18 a19 a20 ha h0 hD hR (fun g4 b12 b13 b14 b15 hR1 => ?_)⟩
    obtain ⟨r1, r2, r3, r4, r5⟩ := hR1
    obtain ⟨q1, q2, q3, q4⟩ := hS
    subst h0 h3
    have h15 : b15 m = -1 := by rw [r5]; exact e
    refine pk_le dc dc (fun _ => ⟨pk_in m 484 (by omega), ?_⟩) (fun z => absurd z (by omega))
    rw [nI_clamp (show m < 2 ^ 31 by omega), nI_clamp (show S < 2 ^ 31 by omega), h15]
    refine br_f la_m1.2 ⟨pk_in m 484 (by omega), nm_e ⟨pk_in S 60 (by omega), nm_e ⟨pk_in S 60 (by omega), nm_e ?_⟩⟩⟩
    refine pk_loop (σ := (Nat → Int32) × (Nat → Int32)) (fun k i t => wX_shapeOfDraft_79 post (nI m) (nI dc) f1 f2 (nI S) g4 f5 f6 f7 k (nI i) a1 a2 a3 a4 a5 a6 (upd a7 S (nI dc)) t.1 (vp_updL a9 S 0) t.2 a11 b12 b13 b14 (upd b15 m (nI S)) a16 a17 a18 a19 a20)
      (fun i t => (∀ j, j < i → t.1 (8 * S + j) = nI (la_S fl (la_bl (dr j)))) ∧ (∀ j, j < i → t.2 (8 * S + j) = 0) ∧ (∀ k, k < 8 * S → t.1 k = a8 k ∧ t.2 k = a10 k)) dc 0 (a8, a10) (by omega) ⟨fun j hj => absurd hj (by omega), fun j hj => absurd hj (by omega), fun k hk => ⟨rfl, rfl⟩⟩ ?_ ?_
    · intro k t ⟨i1, i2, i3⟩
      refine pk_le dc dc (fun _ => nm_r (nI_1 S) ⟨pk_in m 484 (by omega), ?_⟩) (fun z => absurd z (by omega))
      rw [nI_clamp (show m < 2 ^ 31 by omega), pk_us]
      refine h _ _ _ _ _ _ _ _ _ ⟨?_, ?_, ?_, ?_⟩ ⟨r1, r2, r3, r4, ?_⟩
      · intro s0 hs0
        show upd a7 S (nI dc) s0 = nI (if s0 = S then dc else sl s0)
        by_cases es : s0 = S
        · rw [es, pk_us, if_pos rfl]
        · rw [pk_un es, if_neg es]
          exact q1 s0 (by omega)
      · intro s0 i hs0 hi
        have hi' : i < (if s0 = S then dc else sl s0) := hi
        show t.1 (8 * s0 + i) = nI (la_S fl (if s0 = S then la_bl (dr i) else si s0 i))
        by_cases es : s0 = S
        · rw [if_pos es] at hi'
          rw [if_pos es, es]
          exact i1 i hi'
        · rw [if_neg es] at hi'
          have := w4 s0 (by omega)
          rw [if_neg es, (i3 _ (by omega)).1]
          exact q2 s0 i (by omega) hi'
      · rw [q3]
      · intro s0 i hs0 hi hb
        have hi' : i < (if s0 = S then dc else sl s0) := hi
        have hb' : (if s0 = S then la_bl (dr i) else si s0 i) = 1000 := hb
        by_cases es : s0 = S
        · rw [if_pos es] at hi'
          rw [es, i2 i hi', la_last_none L (fun k hk => by have := w3 k hk; omega)]
          rfl
        · rw [if_neg es] at hi' hb'
          have := w4 s0 (by omega)
          rw [(i3 _ (by omega)).2]
          exact q4 s0 i (by omega) hi' hb'
      · rw [r5]
    · intro k i t hi ⟨i1, i2, i3⟩ hw
      have hit := hdr i hi
      have hlt := la_I_lt (fl := fl) ha hit
      refine pk_le dc i (fun z => absurd z (by omega)) (fun _ => ⟨pk_in i 8 (by omega), ?_⟩)
      rw [nI_clamp (show i < 2 ^ 31 by omega), hD i hi, la_ix, nI_clamp (show 8 * S + i < 2 ^ 31 by omega)]
      refine la_blk _ (by omega) ?_
      rw [la_bl_I ha hit]
      refine ⟨pk_in (8 * S + i) 480 (by omega), nm_e ⟨pk_in (8 * S + i) 480 (by omega), nm_e (nm_r (nI_1 i) (hw (upd t.1 (8 * S + i) (nI (la_S fl (la_bl (dr i)))), upd t.2 (8 * S + i) 0) ⟨?_, ?_, ?_⟩))⟩⟩
      · intro j hj
        show upd t.1 (8 * S + i) (nI (la_S fl (la_bl (dr i)))) (8 * S + j) = _
        by_cases e : j = i
        · rw [e, pk_us]
        · rw [pk_un (by omega)]
          exact i1 j (by omega)
      · intro j hj
        show upd t.2 (8 * S + i) 0 (8 * S + j) = 0
        by_cases e : j = i
        · rw [e, pk_us]
        · rw [pk_un (by omega)]
          exact i2 j (by omega)
      · intro k hk
        show upd t.1 (8 * S + i) (nI (la_S fl (la_bl (dr i)))) k = a8 k ∧ upd t.2 (8 * S + i) 0 k = a10 k
        rw [pk_un (by omega), pk_un (by omega)]
        exact i3 k hk
  · refine ⟨s, S, sl, si, sL, T1, s1, by omega, by omega, by rw [e2, hlen], ?_, fun s0 h0 => ⟨rfl, rfl, rfl⟩, fun s0 h0 h1 => absurd h1 (by omega), u1, u3, ?_⟩
    · intro i hi
      rw [e3 i (by rw [e2, hlen]; exact hi), hget i hi]
    intro post fl ad f0 f1 f2 f3 f4 f5 f6 f7 a1 a2 a3 a4 a5 a6 a7 a8 a9 a10 a11 a12 a13 a14 a15 a16 a17 a18 a19 a20 ha h0 hD h3 hS hR h
    unfold wpX_shapeOfDraft
    refine ⟨1 + dc, u5 post fl ad 1 f0 f1 f2 f3 f4 f5 f6 f7 a1 a2 a3 a4 a5 a6 a7 a8 a9 a10 a11 a12 a13 a14 a15 a16 a17 a18 a19 a20 ha h0 hD hR (fun g4 b12 b13 b14 b15 hR1 => ?_)⟩
    have h15 : b15 m = nI s := by rw [hR1.2.2.2.2]; exact e
    subst h0 h3
    refine pk_le dc dc (fun _ => ⟨pk_in m 484 (by omega), ?_⟩) (fun z => absurd z (by omega))
    rw [nI_clamp (show m < 2 ^ 31 by omega), h15]
    exact br_t (nI_pos' (by omega)) ⟨pk_in m 484 (by omega), h _ _ _ _ _ _ _ _ _ hS hR1⟩
/-- the sets of the words, behind the first i items of the draft written as line l -/
def la_wls (dr : Nat → Nat) (l : Nat) (wl : Nat → Int64) : Nat → Nat → Int64
  | 0 => wl
  | i + 1 => if dr i < 24 then vp_updL (la_wls dr l wl i) (dr i) ((la_wls dr l wl i) (dr i) ||| ((1 : Int64) <<< ((nI l).toInt64 &&& 63))) else la_wls dr l wl i
theorem la_wloop {post : Int32 → St1 → Prop} {f0 f1 f2 f3 f4 f5 : Int32} {f6 : Int64} {f7 : Int32} {a1 a2 a3 a4 a5 a6 a7 a8 : Nat → Int32} {a9 : Nat → Int64} {a10 : Nat → Int32} {a11 : Nat → Int64} {a12 a13 a14 a15 a16 a17 a18 a19 a20 : Nat → Int32} {fl : Bool} {ad dc L S s tp : Nat} {dr sl : Nat → Nat} {si Y : Nat → Nat → Nat} {wl : Nat → Int64} {tt : Int32} (ha : ad ≤ 63) (hdc : dc ≤ 8) (hdr : ∀ i, i < dc → la_it (dr i)) (hD : la_RD fl ad dc dr a1) (hL : L < 60) (hs : s < S) (hS : S ≤ 60) (htp : tp ≤ 16 * L)
    (hsl8 : ∀ s0, s0 < S → sl s0 ≤ 8) (hsl : sl s = dc) (hsi : ∀ i, i < dc → si s i = la_bl (dr i)) (hY : ∀ i, Y s i < 1000) (h10 : ∀ s0 i, s0 < S → i < sl s0 → si s0 i = 1000 → a10 (8 * s0 + i) = nI (Y s0 i)) (h11 : ∀ w, w < 24 → a11 w = wl (la_w fl w))
    (H : ∀ (b6 b10 : Nat → Int32) (b11 : Nat → Int64) (q : Nat → Nat), q 0 = tp → (∀ j, j ≤ dc → q j ≤ q dc) → q dc ≤ tp + 2 * dc → (∀ j, j < dc → (24 ≤ dr j → la_E b6 (q j) (nI (dr j - 1000 + ad) - nI (Y s j)) (q (j + 1))) ∧ (¬ 24 ≤ dr j → q (j + 1) = q j)) → (∀ j, j < tp → b6 j = a6 j) →
      (∀ s0 j, s0 < S → j < sl s0 → si s0 j = 1000 → b10 (8 * s0 + j) = nI (if s0 = s then dr j - 1000 + ad else Y s0 j)) → (∀ w, w < 24 → b11 w = la_wls dr L wl dc (la_w fl w)) →
      post (nI L) (nI dc, f1, nI (L + 1), f3, f4, 0, f6, f7, a1, a2, upd a3 L tt, upd a4 L (nI s), upd a5 (L + 1) (nI (q dc)), b6, a7, a8, vp_updL a9 s (a9 s ||| ((1 : Int64) <<< ((nI L).toInt64 &&& 63))), b10, b11, a12, a13, a14, a15, a16, a17, a18, a19, a20)) :
    ∃ n, wX_writeDraft_21 post tt (nI L) (nI s) n (nI tp) 0 (nI dc) f1 (nI L) f3 f4 f5 f6 f7 a1 a2 a3 a4 a5 a6 a7 a8 a9 a10 a11 a12 a13 a14 a15 a16 a17 a18 a19 a20 := by
  refine pk_loop (σ := Int32 × (Nat → Int32) × (Nat → Int32) × (Nat → Int64)) (fun k i t => wX_writeDraft_21 post tt (nI L) (nI s) k t.1 (nI i) (nI dc) f1 (nI L) f3 f4 f5 f6 f7 a1 a2 a3 a4 a5 t.2.1 a7 a8 a9 t.2.2.1 t.2.2.2 a12 a13 a14 a15 a16 a17 a18 a19 a20)
    (fun i t => ∃ q : Nat → Nat, q 0 = tp ∧ t.1 = nI (q i) ∧ (∀ j, j ≤ i → q j ≤ q i) ∧ q i ≤ tp + 2 * i ∧ (∀ j, j < i → (24 ≤ dr j → la_E t.2.1 (q j) (nI (dr j - 1000 + ad) - nI (Y s j)) (q (j + 1))) ∧ (¬ 24 ≤ dr j → q (j + 1) = q j)) ∧ (∀ j, j < tp → t.2.1 j = a6 j) ∧
      (∀ s0 j, s0 < S → j < sl s0 → si s0 j = 1000 → t.2.2.1 (8 * s0 + j) = nI (if s0 = s ∧ j < i then dr j - 1000 + ad else Y s0 j)) ∧ (∀ w, w < 24 → t.2.2.2 w = la_wls dr L wl i (la_w fl w))) dc 0 (nI tp, a6, a10, a11) (by omega) ?_ ?_ ?_
  · refine ⟨fun _ => tp, rfl, rfl, fun j _ => Nat.le_refl tp, Nat.le_refl tp, fun j hj => absurd hj (by omega), fun j _ => rfl, ?_, h11⟩
    intro s0 j h1 h2 h3
    rw [if_neg (by omega)]
    exact h10 s0 j h1 h2 h3
  · intro k t ⟨q, q1, q2, q3, q4, q5, q6, q7, q8⟩
    obtain ⟨at', b6, b10, b11⟩ := t
    dsimp only at q2 q5 q6 q7 q8 ⊢
    subst q2
    refine pk_le dc dc (fun _ => ⟨pk_in (L + 1) 61 (by omega) (hx := nI_1 L), ?_⟩) (fun z => absurd z (by omega))
    rw [nI_1 L, nI_clamp (show L + 1 < 2 ^ 31 by omega), nI_clamp (show L < 2 ^ 31 by omega), nI_clamp (show s < 2 ^ 31 by omega)]
    refine nm_e ⟨pk_in L 60 hL, nm_e ⟨pk_in L 60 hL, nm_e ⟨pk_in s 60 (by omega), pk_in s 60 (by omega), nm_e (nm_e (H b6 b10 b11 q q1 q3 q4 q5 q6 ?_ q8))⟩⟩⟩
    intro s0 j h1 h2 h3
    rw [q7 s0 j h1 h2 h3]
    by_cases e : s0 = s
    · rw [if_pos ⟨e, by rw [e, hsl] at h2; exact h2⟩, if_pos e]
    · rw [if_neg (fun z => e z.1), if_neg e]
  · intro k i t hi ⟨q, q1, q2, q3, q4, q5, q6, q7, q8⟩ hw
    obtain ⟨at', b6, b10, b11⟩ := t
    dsimp only at q2 q5 q6 q7 q8 ⊢
    subst q2
    have hit := hdr i hi
    have hlt := la_I_lt (fl := fl) ha hit
    have hsi' := hsi i hi
    refine pk_le dc i (fun z => absurd z (by omega)) (fun _ => ⟨pk_in i 8 (by omega), ?_⟩)
    rw [nI_clamp (show i < 2 ^ 31 by omega), hD i hi]
    rcases Nat.lt_or_ge (dr i) 24 with hwd | hnm
    · have hwl := la_w_lt (fl := fl) hwd
      rw [la_I_w hwd, nI_clamp (show la_w fl (dr i) < 2 ^ 31 by omega)]
      refine la_isNum _ (by omega) (fun z => absurd z (by omega)) (fun _ => br_t (by decide) ⟨pk_in i 8 (by omega), pk_in _ 24 hwl, pk_in _ 24 hwl, nm_e (nm_r (nI_1 i) ?_)⟩)
      refine hw (nI (q i), b6, b10, vp_updL b11 (la_w fl (dr i)) (b11 (la_w fl (dr i)) ||| ((1 : Int64) <<< ((nI L).toInt64 &&& 63)))) ⟨fun j => if j ≤ i then q j else q i, ?_, ?_, ?_, ?_, ?_, q6, ?_, ?_⟩
      · show (if 0 ≤ i then q 0 else q i) = tp
        rw [if_pos (by omega)]
        exact q1
      · show nI (q i) = nI (if i + 1 ≤ i then q (i + 1) else q i)
        rw [if_neg (by omega)]
      · intro j hj
        show (if j ≤ i then q j else q i) ≤ (if i + 1 ≤ i then q (i + 1) else q i)
        rw [if_neg (show ¬ i + 1 ≤ i by omega)]
        split
        · exact q3 j (by omega)
        · exact Nat.le_refl _
      · show (if i + 1 ≤ i then q (i + 1) else q i) ≤ tp + 2 * (i + 1)
        rw [if_neg (by omega)]
        omega
      · intro j hj
        show (24 ≤ dr j → la_E b6 (if j ≤ i then q j else q i) _ (if j + 1 ≤ i then q (j + 1) else q i)) ∧ (¬ 24 ≤ dr j → (if j + 1 ≤ i then q (j + 1) else q i) = (if j ≤ i then q j else q i))
        by_cases e : j = i
        · subst e
          rw [if_pos (Nat.le_refl j), if_neg (by omega)]
          exact ⟨fun z => absurd z (by omega), fun _ => rfl⟩
        · rw [if_pos (by omega), if_pos (by omega)]
          exact q5 j (by omega)
      · intro s0 j h1 h2 h3
        show b10 (8 * s0 + j) = _
        rw [q7 s0 j h1 h2 h3]
        by_cases e : s0 = s ∧ j < i
        · rw [if_pos e, if_pos ⟨e.1, by omega⟩]
        · rw [if_neg e, if_neg ?_]
          intro ⟨z1, z2⟩
          have ej : j = i := by omega
          rw [z1, ej, hsi'] at h3
          have := (la_bl_n hit).mp h3
          omega
      · intro w hww
        show vp_updL b11 (la_w fl (dr i)) (b11 (la_w fl (dr i)) ||| ((1 : Int64) <<< ((nI L).toInt64 &&& 63))) w = (if dr i < 24 then vp_updL (la_wls dr L wl i) (dr i) ((la_wls dr L wl i) (dr i) ||| ((1 : Int64) <<< ((nI L).toInt64 &&& 63))) else la_wls dr L wl i) (la_w fl w)
        rw [if_pos hwd]
        by_cases e : w = la_w fl (dr i)
        · rw [e, pk_uLs, la_w_w hwd, pk_uLs, q8 _ hwl, la_w_w hwd]
        · rw [pk_uLn e, pk_uLn (fun z => e (by rw [← z, la_w_w hww]))]
          exact q8 w hww
    · have hn2 : 1000 ≤ dr i ∧ dr i ≤ 1910 := by
        unfold la_it at hit
        omega
      have eI : la_I fl ad (dr i) = dr i + ad := la_I_n hnm
      have eb : la_bl (dr i) = 1000 := (la_bl_n hit).mpr hnm
      have ev : nI (dr i + ad) - 1000 = nI (dr i - 1000 + ad) := by
        rw [show (1000 : Int32) = nI 1000 from rfl, pk_sub (by omega)]
        congr 1
        omega
      have e10 : b10 (8 * s + i) = nI (Y s i) := by
        rw [q7 s i hs (by omega) (by rw [hsi', eb]), if_neg (by omega)]
      rw [eI, la_ix, ev]
      have hYi := hY i
      refine la_isNum _ (by omega) (fun _ _ => br_f (by decide) (nm_e ⟨pk_in i 8 (by omega), pk_in (8 * s + i) 480 (by omega), ?_⟩)) (fun z => absurd z (by omega))
      rw [nI_clamp (show 8 * s + i < 2 ^ 31 by omega), e10]
      refine la_bring (q i) (dr i - 1000 + ad) (Y s i) (by omega) (by omega) hYi (fun c6 p' p1 p2 pE pk => ⟨pk_in i 8 (by omega), pk_in (8 * s + i) 480 (by omega), ?_⟩)
      rw [hD i hi, eI, ev]
      refine nm_e (nm_r (nI_1 i) (hw (nI p', c6, upd b10 (8 * s + i) (nI (dr i - 1000 + ad)), b11) ⟨fun j => if j ≤ i then q j else p', ?_, ?_, ?_, ?_, ?_, ?_, ?_, ?_⟩))
      · show (if 0 ≤ i then q 0 else p') = tp
        rw [if_pos (by omega)]
        exact q1
      · show nI p' = nI (if i + 1 ≤ i then q (i + 1) else p')
        rw [if_neg (by omega)]
      · intro j hj
        show (if j ≤ i then q j else p') ≤ (if i + 1 ≤ i then q (i + 1) else p')
        rw [if_neg (show ¬ i + 1 ≤ i by omega)]
        split
        · have := q3 j (by omega)
          omega
        · exact Nat.le_refl _
      · show (if i + 1 ≤ i then q (i + 1) else p') ≤ tp + 2 * (i + 1)
        rw [if_neg (by omega)]
        omega
      · intro j hj
        show (24 ≤ dr j → la_E c6 (if j ≤ i then q j else p') _ (if j + 1 ≤ i then q (j + 1) else p')) ∧ (¬ 24 ≤ dr j → (if j + 1 ≤ i then q (j + 1) else p') = (if j ≤ i then q j else p'))
        by_cases e : j = i
        · subst e
          rw [if_pos (Nat.le_refl j), if_neg (by omega)]
          exact ⟨fun _ => pE, fun z => absurd hnm z⟩
        · rw [if_pos (by omega), if_pos (by omega)]
          refine ⟨fun z => la_E_keep ((q5 j (by omega)).1 z) (fun k hk => pk k ?_), (q5 j (by omega)).2⟩
          have := q3 (j + 1) (by omega)
          omega
      · intro j hj
        show c6 j = a6 j
        have := q3 0 (by omega)
        rw [pk j (by omega)]
        exact q6 j hj
      · intro s0 j h1 h2 h3
        show upd b10 (8 * s + i) (nI (dr i - 1000 + ad)) (8 * s0 + j) = _
        have h8 := hsl8 s0 h1
        by_cases e : s0 = s ∧ j = i
        · rw [e.1, e.2, pk_us, if_pos ⟨rfl, by omega⟩]
        · rw [pk_un (by omega), q7 s0 j h1 h2 h3]
          by_cases e2 : s0 = s ∧ j < i
          · rw [if_pos e2, if_pos ⟨e2.1, by omega⟩]
          · rw [if_neg e2, if_neg (by omega)]
      · intro w hww
        show b11 w = (if dr i < 24 then vp_updL (la_wls dr L wl i) (dr i) ((la_wls dr L wl i) (dr i) ||| ((1 : Int64) <<< ((nI L).toInt64 &&& 63))) else la_wls dr L wl i) (la_w fl w)
        rw [if_neg (by omega)]
        exact q8 w hww
/-- the written part of the picture: lines, times, shapes of lines, numbers; shapes, lengths, items, sets; words; the tree -/
abbrev la_X : Type := Nat × (Nat → Nat) × (Nat → Nat) × (Nat → Nat → Nat) × Nat × (Nat → Nat) × (Nat → Nat → Nat) × (Nat → Int64) × (Nat → Int64) × la_T
def la_WX (X : la_X) : Prop := match X with
  | (L, tm, sh, N, S, sl, si, sL, wl, T) => la_WL L S sh sl si N ∧ la_WT T S sl si ∧ T.1 ≤ 1 + 8 * L ∧ (∀ l, l < L → tm l ≤ 800) ∧ (∀ s, s < S → ∀ k, k < 60 → la_bit (sL s) k = if k < L ∧ sh k = s then 1 else 0)
def la_RX (fl : Bool) (ad la : Nat) (X : la_X) (f2 : Int32) (f3 : Int32) (f4 : Int32) (a3 : Nat → Int32) (a4 : Nat → Int32) (a5 : Nat → Int32) (a6 : Nat → Int32) (a7 : Nat → Int32) (a8 : Nat → Int32) (a9 : Nat → Int64) (a10 : Nat → Int32) (a11 : Nat → Int64) (a12 : Nat → Int32) (a13 : Nat → Int32) (a14 : Nat → Int32) (a15 : Nat → Int32) : Prop := match X with
  | (L, tm, sh, N, S, sl, si, sL, wl, T) => f2 = nI L ∧ f3 = nI S ∧ la_RL fl ad L S sh sl si N a4 a5 a6 a7 a8 ∧ la_RS fl ad L S sh sl si N sL a7 a8 a9 a10 ∧ la_RT fl T f4 a12 a13 a14 a15 ∧ (∀ w, w < 24 → a11 w = wl (la_w fl w)) ∧ (∀ l, l < L → a3 l = nI (tm l + la))
theorem la_wd (dc : Nat) (dr : Nat → Nat) (hd1 : 1 ≤ dc) (hdc : dc ≤ 8) (hdr : ∀ i, i < dc → la_it (dr i)) (X : la_X) (hX : la_WX X) (hL60 : X.1 < 60) (t : Nat) (ht : t ≤ 800) : ∃ X' : la_X, la_WX X' ∧ X'.1 = X.1 + 1 ∧
    ∀ (post : Int32 → St1 → Prop) (fl : Bool) (ad la : Nat) (f0 f1 f2 f3 f4 f5 : Int32) (f6 : Int64) (f7 : Int32) (a1 a2 a3 a4 a5 a6 a7 a8 : Nat → Int32) (a9 : Nat → Int64) (a10 : Nat → Int32) (a11 : Nat → Int64) (a12 a13 a14 a15 a16 a17 a18 a19 a20 : Nat → Int32), ad ≤ 63 → f0 = nI dc → la_RD fl ad dc dr a1 → la_RX fl ad la X f2 f3 f4 a3 a4 a5 a6 a7 a8 a9 a10 a11 a12 a13 a14 a15 →
    (∀ (g2 : Int32) (g3 : Int32) (g4 : Int32) (b3 : Nat → Int32) (b4 : Nat → Int32) (b5 : Nat → Int32) (b6 : Nat → Int32) (b7 : Nat → Int32) (b8 : Nat → Int32) (b9 : Nat → Int64) (b10 : Nat → Int32) (b11 : Nat → Int64) (b12 : Nat → Int32) (b13 : Nat → Int32) (b14 : Nat → Int32) (b15 : Nat → Int32), la_RX fl ad la X' g2 g3 g4 b3 b4 b5 b6 b7 b8 b9 b10 b11 b12 b13 b14 b15 → post (nI X.1) (f0, f1, g2, g3, g4, 0, f6, f7, a1, a2, b3, b4, b5, b6, b7, b8, b9, b10, b11, b12, b13, b14, b15, a16, a17, a18, a19, a20)) → wpX_writeDraft post (f0, f1, f2, f3, f4, f5, f6, f7, a1, a2, a3, a4, a5, a6, a7, a8, a9, a10, a11, a12, a13, a14, a15, a16, a17, a18, a19, a20) (nI (t + la)) := by
  obtain ⟨L, tm, sh, N, S, sl, si, sL, wl, T⟩ := X
  obtain ⟨x1, x2, x3, x4, x5⟩ := hX
  have hL : L < 60 := hL60
  obtain ⟨s, S', sl', si', sL', T', y1, y2, y3, y4, y5, y6, y7, y8, y9, y10⟩ := la_shape dc dr hdc hdr L S sh sl si N x1 hL sL T x2 (by omega)
  obtain ⟨w1, w2, w3, w4, w5, w6⟩ := x1
  have hS8 : ∀ s0, s0 < S' → 1 ≤ sl' s0 ∧ sl' s0 ≤ 8 := by
    intro s0 h0
    rcases Nat.lt_or_ge s0 S with h | h
    · rw [(y6 s0 h).1]
      exact w4 s0 h
    · rw [(y7 s0 h h0).1, y4]
      exact ⟨hd1, hdc⟩
  refine ⟨(L + 1, fun l => if l = L then t else tm l, fun l => if l = L then s else sh l, fun l i => if l = L then min (dr i - 1000) 910 else N l i, S', sl', si', vp_updL sL' s (sL' s ||| ((1 : Int64) <<< ((nI L).toInt64 &&& 63))), la_wls dr L wl dc, T'), ⟨⟨by omega, by omega, ?_, hS8, ?_, ?_⟩, y8, by omega, ?_, ?_⟩, rfl, ?_⟩
  · intro l hl
    show (if l = L then s else sh l) < S'
    split
    · exact y1
    · have := w3 l (by omega)
      omega
  · intro s0 i h0 hi
    rcases Nat.lt_or_ge s0 S with h | h
    · rw [(y6 s0 h).1] at hi
      rw [(y6 s0 h).2.1]
      exact w5 s0 i h hi
    · have e := (y7 s0 h h0).1
      rw [e, y4] at hi
      rw [e, y5 i hi]
      exact la_bl_si (hdr i hi)
  · intro l i hl
    show (if l = L then min (dr i - 1000) 910 else N l i) ≤ 910
    split
    · omega
    · exact w6 l i (by omega)
  · intro l hl
    show (if l = L then t else tm l) ≤ 800
    split
    · exact ht
    · exact x4 l (by omega)
  · intro s0 h0 k hk
    show la_bit (vp_updL sL' s (sL' s ||| ((1 : Int64) <<< ((nI L).toInt64 &&& 63))) s0) k = if k < L + 1 ∧ (if k = L then s else sh k) = s0 then 1 else 0
    have base : la_bit (sL' s0) k = if k < L ∧ sh k = s0 then 1 else 0 := by
      rcases Nat.lt_or_ge s0 S with h | h
      · rw [(y6 s0 h).2.2]
        exact x5 s0 h k hk
      · rw [(y7 s0 h h0).2, la_bit_z (by omega), if_neg ?_]
        intro ⟨z1, z2⟩
        have := w3 k z1
        omega
    by_cases es : s0 = s
    · subst es
      rw [pk_uLs, la_bit_or (by omega) (by omega), base]
      by_cases ek : k = L
      · rw [if_pos ek, if_pos ⟨by omega, if_pos ek⟩]
      · rw [if_neg ek, if_neg ek]
        by_cases c : k < L ∧ sh k = s0
        · rw [if_pos c, if_pos ⟨by omega, c.2⟩]
        · rw [if_neg c, if_neg ?_]
          intro ⟨z1, z2⟩
          exact c ⟨by omega, z2⟩
    · rw [pk_uLn es, base]
      by_cases ek : k = L
      · rw [if_neg (by omega), if_neg ?_]
        intro ⟨z1, z2⟩
        rw [if_pos ek] at z2
        exact es z2.symm
      · rw [if_neg ek]
        by_cases c : k < L ∧ sh k = s0
        · rw [if_pos c, if_pos ⟨by omega, c.2⟩]
        · rw [if_neg c, if_neg ?_]
          intro ⟨z1, z2⟩
          exact c ⟨by omega, z2⟩
  intro post fl ad la f0 f1 f2 f3 f4 f5 f6 f7 a1 a2 a3 a4 a5 a6 a7 a8 a9 a10 a11 a12 a13 a14 a15 a16 a17 a18 a19 a20 ha h0 hD hR h
  obtain ⟨r1, r2, r3, r4, r5, r6, r7⟩ := hR
  unfold wpX_writeDraft
  refine y10 _ fl ad f0 f1 f2 f3 f4 f5 f6 f7 a1 a2 a3 a4 a5 a6 a7 a8 a9 a10 a11 a12 a13 a14 a15 a16 a17 a18 a19 a20 ha h0 hD r2 r4 r5 (fun g4 b7 b8 b9 b10 b12 b13 b14 b15 hS hT => ?_)
  obtain ⟨l1, l2, l3, tp, l4, l5, l6⟩ := r3
  obtain ⟨s1, s2, s3, s4⟩ := hS
  subst h0 r1
  refine ⟨pk_in L 61 (by omega), ?_⟩
  rw [nI_clamp (show L < 2 ^ 31 by omega)]
  refine nm_r l5 ?_
  refine la_wloop (f0 := 0) (f2 := 0) (Y := fun s0 i => la_last (fun l i => N l i + ad) sh L s0 i) (wl := wl) (sl := sl') (si := si') (S := S') ha hdc hdr hD hL y1 (by omega) l4 (fun s0 h0 => (hS8 s0 h0).2) y4 y5 (fun i => ?_) s4 r6 (fun c6 c10 c11 q q1 q2 q3 q4 q5 q6 q7 => ?_)
  · have := la_last_le (M := fun l i => N l i + ad) (sh := sh) (s := s) (i := i) (b := 973) L (fun k hk => by have := w6 k i hk; show N k i + ad ≤ 973; omega)
    show la_last (fun l i => N l i + ad) sh L s i < 1000
    omega
  have hmin : ∀ i, i < dc → min (dr i - 1000) 910 = dr i - 1000 := by
    intro i hi
    have := hdr i hi
    unfold la_it at this
    omega
  have cong : ∀ l, l ≤ L → ∀ s0 i, la_last (fun l i => (if l = L then min (dr i - 1000) 910 else N l i) + ad) (fun l => if l = L then s else sh l) l s0 i = la_last (fun l i => N l i + ad) sh l s0 i := by
    intro l hl s0 i
    refine la_last_cong l (fun k hk => ⟨if_neg (by omega), fun i => ?_⟩)
    show (if k = L then min (dr i - 1000) 910 else N k i) + ad = N k i + ad
    rw [if_neg (by omega)]
  refine h _ _ _ _ _ _ _ _ _ _ _ _ _ _ _ _ ⟨rfl, rfl, ⟨?_, s1, s2, q dc, by omega, pk_us, ?_⟩, ⟨s1, s2, ?_, ?_⟩, hT, q7, ?_⟩
  · intro l hl
    show upd a4 L (nI s) l = nI (if l = L then s else sh l)
    by_cases e : l = L
    · rw [e, pk_us, if_pos rfl]
    · rw [pk_un e, if_neg e]
      exact l1 l (by omega)
  · intro l hl
    by_cases e : l = L
    · subst e
      refine ⟨q, ?_, ?_, ?_⟩
      · rw [pk_un (by omega), q1]
        exact l5
      · dsimp only
        rw [if_pos rfl, y4]
        exact q2
      · dsimp only
        rw [if_pos rfl, y4]
        intro i hi
        rw [if_pos rfl, cong l (Nat.le_refl l), y5 i hi, hmin i hi]
        have hb := la_bl_n (hdr i hi)
        exact ⟨fun z => (q4 i hi).1 (hb.mp z), fun z => (q4 i hi).2 (fun y => z (hb.mpr y))⟩
    · have hl' : l < L := by omega
      have hsl' := w3 l hl'
      obtain ⟨p, p1, p2, p3⟩ := l6 l hl'
      have htp : tp ≤ q dc := by
        have := q2 0 (by omega)
        omega
      refine ⟨p, ?_, ?_, ?_⟩
      · rw [pk_un (by omega)]
        exact p1
      · dsimp only
        rw [if_neg e, (y6 _ hsl').1]
        intro i hi
        have := p2 i hi
        omega
      · dsimp only
        rw [if_neg e, (y6 _ hsl').1]
        intro i hi
        rw [if_neg e, cong l (by omega), (y6 _ hsl').2.1]
        refine ⟨fun z => la_E_keep ((p3 i hi).1 z) (fun k hk => q5 k ?_), (p3 i hi).2⟩
        have := p2 (i + 1) (by omega)
        omega
  · rw [s3]
  · intro s0 i h0 hi hb
    rw [q6 s0 i h0 hi hb]
    show _ = nI (if (if L = L then s else sh L) = s0 then (if L = L then min (dr i - 1000) 910 else N L i) + ad else la_last (fun l i => (if l = L then min (dr i - 1000) 910 else N l i) + ad) (fun l => if l = L then s else sh l) L s0 i)
    rw [if_pos rfl, if_pos rfl, cong L (Nat.le_refl L)]
    by_cases e : s0 = s
    · rw [if_pos e, if_pos e.symm, hmin i (by rw [e, y4] at hi; exact hi)]
    · rw [if_neg e, if_neg (fun z => e z.symm)]
  · intro l hl
    show upd a3 L (nI (t + la)) l = nI ((if l = L then t else tm l) + la)
    by_cases e : l = L
    · rw [e, pk_us, if_pos rfl]
    · rw [pk_un e, if_neg e]
      exact r7 l (by omega)
theorem la_empty (X : la_X) : ∃ X' : la_X, la_WX X' ∧ X'.1 = 0 ∧
    ∀ (post : St1 → Prop) (fl : Bool) (ad la : Nat) (f0 f1 f2 f3 f4 f5 : Int32) (f6 : Int64) (f7 : Int32) (a1 a2 a3 a4 a5 a6 a7 a8 : Nat → Int32) (a9 : Nat → Int64) (a10 : Nat → Int32) (a11 : Nat → Int64) (a12 a13 a14 a15 a16 a17 a18 a19 a20 : Nat → Int32), a9 = X.2.2.2.2.2.2.2.1 → a13 = X.2.2.2.2.2.2.2.2.2.2.2.1 → a14 = X.2.2.2.2.2.2.2.2.2.2.2.2.1 → a15 = X.2.2.2.2.2.2.2.2.2.2.2.2.2.1 →
    (∀ (g2 : Int32) (g3 : Int32) (g4 : Int32) (b3 : Nat → Int32) (b4 : Nat → Int32) (b5 : Nat → Int32) (b6 : Nat → Int32) (b7 : Nat → Int32) (b8 : Nat → Int32) (b9 : Nat → Int64) (b10 : Nat → Int32) (b11 : Nat → Int64) (b12 : Nat → Int32) (b13 : Nat → Int32) (b14 : Nat → Int32) (b15 : Nat → Int32), la_RX fl ad la X' g2 g3 g4 b3 b4 b5 b6 b7 b8 b9 b10 b11 b12 b13 b14 b15 → post (f0, f1, g2, g3, g4, 0, f6, f7, a1, a2, b3, b4, b5, b6, b7, b8, b9, b10, b11, b12, b13, b14, b15, a16, a17, a18, a19, a20)) → wpX_empty post (f0, f1, f2, f3, f4, f5, f6, f7, a1, a2, a3, a4, a5, a6, a7, a8, a9, a10, a11, a12, a13, a14, a15, a16, a17, a18, a19, a20) := by
  obtain ⟨L, tm, sh, N, S, sl, si, sL, wl, nd, ni, be, bs, eh, pth⟩ := X
  refine ⟨(0, tm, sh, N, 0, sl, si, sL, fun _ => 0, 1, ni, upd be 0 (-1), upd bs 0 (-1), upd eh 0 (-1), fun _ => []), ⟨⟨by omega, by omega, fun l hl => absurd hl (by omega), fun l hl => absurd hl (by omega), fun l i hl => absurd hl (by omega), fun l i hl => absurd hl (by omega)⟩, ⟨Nat.le_refl 1, rfl, ?_, ?_, ?_, ?_⟩, Nat.le_refl 1, fun l hl => absurd hl (by omega), fun l hl => absurd hl (by omega)⟩, rfl, ?_⟩
  · intro n h0 h1
    have h1' : n < 1 := h1
    omega
  · intro n h1
    have h1' : n < 1 := h1
    have e : n = 0 := by omega
    refine Or.inl ?_
    rw [e]
    show upd be 0 (-1) 0 = -1
    exact pk_us
  · intro n h0 h1
    have h1' : n < 1 := h1
    omega
  · intro n h1
    have h1' : n < 1 := h1
    have e : n = 0 := by omega
    refine Or.inl ?_
    rw [e]
    show upd eh 0 (-1) 0 = -1
    exact pk_us
  intro post fl ad la f0 f1 f2 f3 f4 f5 f6 f7 a1 a2 a3 a4 a5 a6 a7 a8 a9 a10 a11 a12 a13 a14 a15 a16 a17 a18 a19 a20 h9 h13 h14 h15 h
  dsimp only at h9 h13 h14 h15
  subst h9 h13 h14 h15
  unfold wpX_empty
  refine nm_e (la_newNode (f4 := 0) 0 (by omega) ?_)
  refine pk_loop (fun k i b => wX_empty_30 post f0 f1 0 0 (nI 1) f5 f6 f7 k (nI i) a1 a2 a3 a4 (upd a5 0 0) a6 a7 a8 a9 a10 b (upd a12 0 (-1)) (upd a13 0 (-1)) (upd a14 0 (-1)) (upd a15 0 (-1)) a16 a17 a18 a19 a20) (fun i b => ∀ w, w < i → b w = 0) 24 0 a11 (by omega) (fun j hj => absurd hj (by omega)) ?_ ?_
  · intro k b hb
    refine pk_le 24 24 (fun _ => ?_) (fun z => absurd z (by omega))
    refine h _ _ _ _ _ _ _ _ _ _ _ _ _ _ _ _ ⟨rfl, rfl, ⟨fun l hl => absurd hl (by omega), fun l hl => absurd hl (by omega), fun l i hl => absurd hl (by omega), 0, by omega, pk_us, fun l hl => absurd hl (by omega)⟩, ⟨fun l hl => absurd hl (by omega), fun l i hl => absurd hl (by omega), rfl, fun l i hl => absurd hl (by omega)⟩, ⟨rfl, fun j h0 h1 => ?_, rfl, rfl, rfl⟩, hb, fun l hl => absurd hl (by omega)⟩
    have h1' : j < 1 := h1
    omega
  · intro k i b hi hb hw
    refine pk_le 24 i (fun z => absurd z (by omega)) (fun _ => ⟨pk_in i 24 hi, ?_⟩)
    rw [nI_clamp (by omega)]
    refine nm_e (nm_r (nI_1 i) (hw _ ?_))
    intro w hw2
    by_cases e : w = i
    · rw [e, pk_uLs]
    · rw [pk_uLn e]
      exact hb w (by omega)
end
section
/-! ===== the whole picture, and what is asked of it ===== -/
/-- draft, pattern, isFitted, fits, and the written part -/
abbrev la_G : Type := Nat × (Nat → Nat) × Nat × (Nat → Nat) × Int32 × Int64 × la_X
def la_WG (G : la_G) : Prop := match G with
  | (dc, dr, pc, pt, fi, ft, X) => dc ≤ 8 ∧ (∀ i, i < dc → la_it (dr i)) ∧ la_WP pc pt ∧ la_WX X
def la_RG (fl : Bool) (ad la : Nat) (G : la_G) (u : St1) : Prop := match G, u with
  | (dc, dr, pc, pt, fi, ft, X), (f0, f1, f2, f3, f4, f5, f6, f7, a1, a2, a3, a4, a5, a6, a7, a8, a9, a10, a11, a12, a13, a14, a15, a16, a17, a18, a19, a20) => f0 = nI dc ∧ la_RD fl ad dc dr a1 ∧ f1 = nI pc ∧ la_RP fl ad pc pt a2 ∧ f5 = fi ∧ f6 = ft ∧ la_RX fl ad la X f2 f3 f4 a3 a4 a5 a6 a7 a8 a9 a10 a11 a12 a13 a14 a15
theorem la_qlines {dc : Nat} {dr : Nat → Nat} {pc : Nat} {pt : Nat → Nat} {fi : Int32} {ft : Int64} {L : Nat} {tm sh : Nat → Nat} {N : Nat → Nat → Nat} {S : Nat} {sl : Nat → Nat} {si : Nat → Nat → Nat} {sL wl : Nat → Int64} {T : la_T} {post : Int32 → Prop} {fl : Bool} {ad la : Nat} {u : St1} (hR : la_RG fl ad la (dc, dr, pc, pt, fi, ft, L, tm, sh, N, S, sl, si, sL, wl, T) u) (h : post (nI L)) : wpX_lines post u := by
  obtain ⟨f0, f1, f2, f3, f4, f5, f6, f7, a1, a2, a3, a4, a5, a6, a7, a8, a9, a10, a11, a12, a13, a14, a15, a16, a17, a18, a19, a20⟩ := u
  obtain ⟨h0, hD, h1, hP, h5, h6, h2, h3, hL, hS, hT, h11, h3'⟩ := hR
  subst h2
  exact h
theorem la_qgroups {dc : Nat} {dr : Nat → Nat} {pc : Nat} {pt : Nat → Nat} {fi : Int32} {ft : Int64} {L : Nat} {tm sh : Nat → Nat} {N : Nat → Nat → Nat} {S : Nat} {sl : Nat → Nat} {si : Nat → Nat → Nat} {sL wl : Nat → Int64} {T : la_T} {post : Int32 → Prop} {fl : Bool} {ad la : Nat} {u : St1} (hR : la_RG fl ad la (dc, dr, pc, pt, fi, ft, L, tm, sh, N, S, sl, si, sL, wl, T) u) (h : post (nI S)) : wpX_groups post u := by
  obtain ⟨f0, f1, f2, f3, f4, f5, f6, f7, a1, a2, a3, a4, a5, a6, a7, a8, a9, a10, a11, a12, a13, a14, a15, a16, a17, a18, a19, a20⟩ := u
  obtain ⟨h0, hD, h1, hP, h5, h6, h2, h3, hL, hS, hT, h11, h3'⟩ := hR
  subst h3
  exact h
theorem la_qfit {dc : Nat} {dr : Nat → Nat} {pc : Nat} {pt : Nat → Nat} {fi : Int32} {ft : Int64} {L : Nat} {tm sh : Nat → Nat} {N : Nat → Nat → Nat} {S : Nat} {sl : Nat → Nat} {si : Nat → Nat → Nat} {sL wl : Nat → Int64} {T : la_T} (hG : la_WG (dc, dr, pc, pt, fi, ft, L, tm, sh, N, S, sl, si, sL, wl, T)) : ∃ (fi' : Int32) (ft' : Int64), ∀ (post : St1 → Prop) (fl : Bool) (ad la : Nat) (u : St1), ad ≤ 63 → la_RG fl ad la (dc, dr, pc, pt, fi, ft, L, tm, sh, N, S, sl, si, sL, wl, T) u → (∀ u', la_RG fl ad la (dc, dr, pc, pt, fi', ft', L, tm, sh, N, S, sl, si, sL, wl, T) u' → post u') → wpX_fit post u := by
  obtain ⟨g1, g2, g3, x1, x2, x3, x4, x5⟩ := hG
  obtain ⟨fi', ft', hf⟩ := la_fit pc pt g3 L S sh sl si N x1 sL fi ft
  refine ⟨fi', ft', ?_⟩
  intro post fl ad la u ha hR h
  obtain ⟨f0, f1, f2, f3, f4, f5, f6, f7, a1, a2, a3, a4, a5, a6, a7, a8, a9, a10, a11, a12, a13, a14, a15, a16, a17, a18, a19, a20⟩ := u
  obtain ⟨h0, hD, h1, hP, h5, h6, h2, h3, hL, hS, hT, h11, h3'⟩ := hR
  exact hf post fl ad f0 f1 f2 f3 f4 f5 f6 f7 a1 a2 a3 a4 a5 a6 a7 a8 a9 a10 a11 a12 a13 a14 a15 a16 a17 a18 a19 a20 ha h1 hP h2 h3 hL hS.2.2.1 h5 h6 (fun fr b17 => h _ ⟨h0, hD, h1, hP, rfl, rfl, h2, h3, hL, hS, hT, h11, h3'⟩)
theorem la_fgl (S : Nat) (hS : S ≤ 60) (sL : Nat → Int64) (ft : Int64) : ∃ r : Int32, ∀ (post : Int32 → St1 → Prop) (f0 f1 f2 f3 f4 f5 : Int32) (f6 : Int64) (f7 : Int32) (a1 a2 a3 a4 a5 a6 a7 a8 : Nat → Int32) (a9 : Nat → Int64) (a10 : Nat → Int32) (a11 : Nat → Int64) (a12 a13 a14 a15 a16 a17 a18 a19 a20 : Nat → Int32), f3 = nI S → f6 = ft → a9 = sL → post r (f0, f1, f2, f3, f4, f5, f6, f7, a1, a2, a3, a4, a5, a6, a7, a8, a9, a10, a11, a12, a13, a14, a15, a16, a17, a18, a19, a20) → ∃ n, wX_fittingGroups_8 post f0 f1 f2 f3 f4 f5 f6 f7 a1 a2 a3 a4 a5 a6 a7 a8 a9 a10 a11 a12 a13 a14 a15 a16 a17 a18 a19 a20 n 0 0 := by
  have key : ∀ k i (c : Int32), i + k = S → ∃ r : Int32, ∀ (post : Int32 → St1 → Prop) (f0 f1 f2 f3 f4 f5 : Int32) (f6 : Int64) (f7 : Int32) (a1 a2 a3 a4 a5 a6 a7 a8 : Nat → Int32) (a9 : Nat → Int64) (a10 : Nat → Int32) (a11 : Nat → Int64) (a12 a13 a14 a15 a16 a17 a18 a19 a20 : Nat → Int32), f3 = nI S → f6 = ft → a9 = sL → post r (f0, f1, f2, f3, f4, f5, f6, f7, a1, a2, a3, a4, a5, a6, a7, a8, a9, a10, a11, a12, a13, a14, a15, a16, a17, a18, a19, a20) → wX_fittingGroups_8 post f0 f1 f2 f3 f4 f5 f6 f7 a1 a2 a3 a4 a5 a6 a7 a8 a9 a10 a11 a12 a13 a14 a15 a16 a17 a18 a19 a20 (k + 1) c (nI i) := by
    intro k
    induction k with
    | zero =>
      intro i c hi
      refine ⟨c, ?_⟩
      intro post f0 f1 f2 f3 f4 f5 f6 f7 a1 a2 a3 a4 a5 a6 a7 a8 a9 a10 a11 a12 a13 a14 a15 a16 a17 a18 a19 a20 h3 h6 h9 h
      subst h3
      exact pk_le S i (fun _ => h) (fun z => absurd z (by omega))
    | succ k ih =>
      intro i c hi
      by_cases c1 : (ft &&& sL i) = 0
      · obtain ⟨r, hr⟩ := ih (i + 1) (c + 0) (by omega)
        refine ⟨r, ?_⟩
        intro post f0 f1 f2 f3 f4 f5 f6 f7 a1 a2 a3 a4 a5 a6 a7 a8 a9 a10 a11 a12 a13 a14 a15 a16 a17 a18 a19 a20 h3 h6 h9 h
        have hn := hr post f0 f1 f2 f3 f4 f5 f6 f7 a1 a2 a3 a4 a5 a6 a7 a8 a9 a10 a11 a12 a13 a14 a15 a16 a17 a18 a19 a20 h3 h6 h9 h
        subst h3 h6 h9
        refine pk_le S i (fun z => absurd z (by omega)) (fun _ => ⟨pk_in i 60 (by omega), ?_⟩)
        rw [nI_clamp (by omega)]
        exact br_t c1 (nm_e (nm_r (nI_1 i) hn))
      · obtain ⟨r, hr⟩ := ih (i + 1) (c + 1) (by omega)
        refine ⟨r, ?_⟩
        intro post f0 f1 f2 f3 f4 f5 f6 f7 a1 a2 a3 a4 a5 a6 a7 a8 a9 a10 a11 a12 a13 a14 a15 a16 a17 a18 a19 a20 h3 h6 h9 h
        have hn := hr post f0 f1 f2 f3 f4 f5 f6 f7 a1 a2 a3 a4 a5 a6 a7 a8 a9 a10 a11 a12 a13 a14 a15 a16 a17 a18 a19 a20 h3 h6 h9 h
        subst h3 h6 h9
        refine pk_le S i (fun z => absurd z (by omega)) (fun _ => ⟨pk_in i 60 (by omega), ?_⟩)
        rw [nI_clamp (by omega)]
        exact br_f c1 (nm_e (nm_r (nI_1 i) hn))
  obtain ⟨r, hr⟩ := key S 0 0 (by omega)
  exact ⟨r, fun post f0 f1 f2 f3 f4 f5 f6 f7 a1 a2 a3 a4 a5 a6 a7 a8 a9 a10 a11 a12 a13 a14 a15 a16 a17 a18 a19 a20 h3 h6 h9 h => ⟨S + 1, hr post f0 f1 f2 f3 f4 f5 f6 f7 a1 a2 a3 a4 a5 a6 a7 a8 a9 a10 a11 a12 a13 a14 a15 a16 a17 a18 a19 a20 h3 h6 h9 h⟩⟩
theorem la_qfg {dc : Nat} {dr : Nat → Nat} {pc : Nat} {pt : Nat → Nat} {fi : Int32} {ft : Int64} {L : Nat} {tm sh : Nat → Nat} {N : Nat → Nat → Nat} {S : Nat} {sl : Nat → Nat} {si : Nat → Nat → Nat} {sL wl : Nat → Int64} {T : la_T} (hG : la_WG (dc, dr, pc, pt, fi, ft, L, tm, sh, N, S, sl, si, sL, wl, T)) : ∃ (r : Int32) (fi' : Int32) (ft' : Int64), ∀ (post : Int32 → St1 → Prop) (fl : Bool) (ad la : Nat) (u : St1), ad ≤ 63 → la_RG fl ad la (dc, dr, pc, pt, fi, ft, L, tm, sh, N, S, sl, si, sL, wl, T) u → (∀ u', la_RG fl ad la (dc, dr, pc, pt, fi', ft', L, tm, sh, N, S, sl, si, sL, wl, T) u' → post r u') → wpX_fittingGroups post u := by
  obtain ⟨fi', ft', hf⟩ := la_qfit hG
  obtain ⟨g1, g2, g3, ⟨w1, w2, w3⟩, x2, x3, x4, x5⟩ := hG
  obtain ⟨r, hr⟩ := la_fgl S (by omega) sL ft'
  refine ⟨r, fi', ft', ?_⟩
  intro post fl ad la u ha hR h
  obtain ⟨f0, f1, f2, f3, f4, f5, f6, f7, a1, a2, a3, a4, a5, a6, a7, a8, a9, a10, a11, a12, a13, a14, a15, a16, a17, a18, a19, a20⟩ := u
  unfold wpX_fittingGroups
  refine hf _ fl ad la _ ha hR (fun u' hR' => ?_)
  obtain ⟨g0, g1, g2, g3, g4, g5, g6, g7, b1, b2, b3, b4, b5, b6, b7, b8, b9, b10, b11, b12, b13, b14, b15, b16, b17, b18, b19, b20⟩ := u'
  have hR2 := hR'
  obtain ⟨h0, hD, h1, hP, h5, h6, h2, h3, hL, hS, hT, h11, h3'⟩ := hR'
  exact hr post g0 g1 g2 g3 g4 g5 g6 g7 b1 b2 b3 b4 b5 b6 b7 b8 b9 b10 b11 b12 b13 b14 b15 b16 b17 b18 b19 b20 h3 h6 hS.2.2.1 (h _ hR2)
theorem la_qburst {dc : Nat} {dr : Nat → Nat} {pc : Nat} {pt : Nat → Nat} {fi : Int32} {ft : Int64} {L : Nat} {tm sh : Nat → Nat} {N : Nat → Nat → Nat} {S : Nat} {sl : Nat → Nat} {si : Nat → Nat → Nat} {sL wl : Nat → Int64} {T : la_T} (hG : la_WG (dc, dr, pc, pt, fi, ft, L, tm, sh, N, S, sl, si, sL, wl, T)) (w : Int32) : ∃ r : Int32, ∀ (post : Int32 → Prop) (fl : Bool) (ad la : Nat) (u : St1), la_RG fl ad la (dc, dr, pc, pt, fi, ft, L, tm, sh, N, S, sl, si, sL, wl, T) u → post r → wpX_burst post u w := by
  obtain ⟨g1, g2, g3, ⟨w1, w2, w3⟩, x2, x3, x4, x5⟩ := hG
  obtain ⟨r, hr⟩ := la_burst L w1 w (fun e b => w ≤ nI (tm e) - nI (tm b))
  refine ⟨r, ?_⟩
  intro post fl ad la u hR h
  obtain ⟨f0, f1, f2, f3, f4, f5, f6, f7, a1, a2, a3, a4, a5, a6, a7, a8, a9, a10, a11, a12, a13, a14, a15, a16, a17, a18, a19, a20⟩ := u
  obtain ⟨h0, hD, h1, hP, h5, h6, h2, h3, hL, hS, hT, h11, h3'⟩ := hR
  refine hr post f0 f1 f2 f3 f4 f5 f6 f7 a1 a2 a3 a4 a5 a6 a7 a8 a9 a10 a11 a12 a13 a14 a15 a16 a17 a18 a19 a20 h2 (fun e b he hb => ?_) h
  have ee : a3 e - a3 b = nI (tm e) - nI (tm b) := by
    rw [h3' e he, h3' b hb, ← nI_add, ← nI_add]
    grind
  rw [ee]
/-- the count of times below a bound, and up to a bound -/
theorem la_qcb {dc : Nat} {dr : Nat → Nat} {pc : Nat} {pt : Nat → Nat} {fi : Int32} {ft : Int64} {L : Nat} {tm sh : Nat → Nat} {N : Nat → Nat → Nat} {S : Nat} {sl : Nat → Nat} {si : Nat → Nat → Nat} {sL wl : Nat → Int64} {T : la_T} (hG : la_WG (dc, dr, pc, pt, fi, ft, L, tm, sh, N, S, sl, si, sL, wl, T)) (p : Nat → Prop) : ∃ r, r ≤ L ∧ ∀ (post : Int32 → Prop) (fl : Bool) (ad la : Nat) (u : St1) (t : Int32), la_RG fl ad la (dc, dr, pc, pt, fi, ft, L, tm, sh, N, S, sl, si, sL, wl, T) u → (∀ m, m < L → (t ≤ nI (tm m + la) ↔ ¬ p m)) → post (nI r) → wpX_countBelow post u t := by
  obtain ⟨g1, g2, g3, ⟨w1, w2, w3⟩, x2, x3, x4, x5⟩ := hG
  obtain ⟨r, hr1, hr⟩ := la_cb L w1 p
  refine ⟨r, hr1, ?_⟩
  intro post fl ad la u t hR hp h
  obtain ⟨f0, f1, f2, f3, f4, f5, f6, f7, a1, a2, a3, a4, a5, a6, a7, a8, a9, a10, a11, a12, a13, a14, a15, a16, a17, a18, a19, a20⟩ := u
  obtain ⟨h0, hD, h1, hP, h5, h6, h2, h3, hL, hS, hT, h11, h3'⟩ := hR
  refine hr post t f0 f1 f2 f3 f4 f5 f6 f7 a1 a2 a3 a4 a5 a6 a7 a8 a9 a10 a11 a12 a13 a14 a15 a16 a17 a18 a19 a20 h2 (fun m hm => ?_) h
  rw [h3' m hm]
  exact hp m hm
theorem la_tmc {tm : Nat → Nat} {L : Nat} (h : ∀ l, l < L → tm l ≤ 800) {a la : Nat} (ha : a ≤ 2000) (hl : la ≤ 127) : ∀ m, m < L → (nI (a + la) ≤ nI (tm m + la) ↔ ¬ tm m < a) := by
  intro m hm
  have := h m hm
  rw [nI_leI (by omega) (by omega)]
  omega
theorem la_qbetween {dc : Nat} {dr : Nat → Nat} {pc : Nat} {pt : Nat → Nat} {fi : Int32} {ft : Int64} {L : Nat} {tm sh : Nat → Nat} {N : Nat → Nat → Nat} {S : Nat} {sl : Nat → Nat} {si : Nat → Nat → Nat} {sL wl : Nat → Int64} {T : la_T} (hG : la_WG (dc, dr, pc, pt, fi, ft, L, tm, sh, N, S, sl, si, sL, wl, T)) (a b : Nat) (ha : a ≤ 800) (hb : b ≤ 800) : ∃ r : Int32, ∀ (post : Int32 → Prop) (fl : Bool) (ad la : Nat) (u : St1), la ≤ 127 → la_RG fl ad la (dc, dr, pc, pt, fi, ft, L, tm, sh, N, S, sl, si, sL, wl, T) u → post r → wpX_between post u (nI (a + la)) (nI (b + la)) := by
  obtain ⟨r1, q1, hr1⟩ := la_qcb hG (fun m => tm m < a)
  obtain ⟨r2, q2, hr2⟩ := la_qcb hG (fun m => tm m < b + 1)
  have hG' := hG
  obtain ⟨g1, g2, g3, ⟨w1, w2, w3⟩, x2, x3, x4, x5⟩ := hG'
  by_cases c : nI r2 ≤ nI r1
  · refine ⟨0, ?_⟩
    intro post fl ad la u hla hR h
    obtain ⟨f0, f1, f2, f3, f4, f5, f6, f7, a1, a2, a3, a4, a5, a6, a7, a8, a9, a10, a11, a12, a13, a14, a15, a16, a17, a18, a19, a20⟩ := u
    unfold wpX_between
    refine hr1 _ fl ad la _ _ hR (la_tmc x4 (by omega) hla) ?_
    unfold wpX_countUpTo
    refine pk_lt (b + la) 1000 (fun _ => ?_) (fun z => absurd z (by omega))
    refine hr2 _ fl ad la _ _ hR (by rw [nI_1, Nat.add_right_comm]; exact la_tmc x4 (by omega) hla) ?_
    exact br_t c h
  · refine ⟨nI r2 - nI r1, ?_⟩
    intro post fl ad la u hla hR h
    obtain ⟨f0, f1, f2, f3, f4, f5, f6, f7, a1, a2, a3, a4, a5, a6, a7, a8, a9, a10, a11, a12, a13, a14, a15, a16, a17, a18, a19, a20⟩ := u
    unfold wpX_between
    refine hr1 _ fl ad la _ _ hR (la_tmc x4 (by omega) hla) ?_
    unfold wpX_countUpTo
    refine pk_lt (b + la) 1000 (fun _ => ?_) (fun z => absurd z (by omega))
    refine hr2 _ fl ad la _ _ hR (by rw [nI_1, Nat.add_right_comm]; exact la_tmc x4 (by omega) hla) ?_
    exact br_f c h
theorem la_qfitting {dc : Nat} {dr : Nat → Nat} {pc : Nat} {pt : Nat → Nat} {fi : Int32} {ft : Int64} {L : Nat} {tm sh : Nat → Nat} {N : Nat → Nat → Nat} {S : Nat} {sl : Nat → Nat} {si : Nat → Nat → Nat} {sL wl : Nat → Int64} {T : la_T} (hG : la_WG (dc, dr, pc, pt, fi, ft, L, tm, sh, N, S, sl, si, sL, wl, T)) (a b : Nat) (ha : a ≤ 800) (hb : b ≤ 800) : ∃ (r : Int32) (fi' : Int32) (ft' : Int64), ∀ (post : Int32 → St1 → Prop) (fl : Bool) (ad la : Nat) (u : St1), ad ≤ 63 → la ≤ 127 → la_RG fl ad la (dc, dr, pc, pt, fi, ft, L, tm, sh, N, S, sl, si, sL, wl, T) u → (∀ u', la_RG fl ad la (dc, dr, pc, pt, fi', ft', L, tm, sh, N, S, sl, si, sL, wl, T) u' → post r u') → wpX_fitting post u (nI (a + la)) (nI (b + la)) := by
  obtain ⟨fi', ft', hf⟩ := la_qfit hG
  have hG2 : la_WG (dc, dr, pc, pt, fi', ft', L, tm, sh, N, S, sl, si, sL, wl, T) := hG
  obtain ⟨r1, q1, hr1⟩ := la_qcb hG2 (fun m => tm m < a)
  obtain ⟨r2, q2, hr2⟩ := la_qcb hG2 (fun m => tm m < b + 1)
  obtain ⟨g1, g2, g3, ⟨w1, w2, w3⟩, x2, x3, x4, x5⟩ := hG
  by_cases c : nI r2 ≤ nI r1
  · refine ⟨0, fi', ft', ?_⟩
    intro post fl ad la u ha hla hR h
    obtain ⟨f0, f1, f2, f3, f4, f5, f6, f7, a1, a2, a3, a4, a5, a6, a7, a8, a9, a10, a11, a12, a13, a14, a15, a16, a17, a18, a19, a20⟩ := u
    unfold wpX_fitting
    refine hf _ fl ad la _ ha hR (fun u' hR' => ?_)
    obtain ⟨g0, g1, g2, g3, g4, g5, g6, g7, b1, b2, b3, b4, b5, b6, b7, b8, b9, b10, b11, b12, b13, b14, b15, b16, b17, b18, b19, b20⟩ := u'
    refine hr1 _ fl ad la _ _ hR' (la_tmc x4 (by omega) hla) ?_
    unfold wpX_countUpTo
    refine pk_lt (b + la) 1000 (fun _ => ?_) (fun z => absurd z (by omega))
    refine hr2 _ fl ad la _ _ hR' (by rw [nI_1, Nat.add_right_comm]; exact la_tmc x4 (by omega) hla) ?_
    exact br_t c (h _ hR')
  · refine ⟨nI (la_cnt ((ft' &&& (((1 : Int64) <<< ((nI r2).toInt64 &&& 63)) - 1)) &&& ((((1 : Int64) <<< ((nI r1).toInt64 &&& 63)) - 1) ^^^ (-1))) 60), fi', ft', ?_⟩
    intro post fl ad la u ha hla hR h
    obtain ⟨f0, f1, f2, f3, f4, f5, f6, f7, a1, a2, a3, a4, a5, a6, a7, a8, a9, a10, a11, a12, a13, a14, a15, a16, a17, a18, a19, a20⟩ := u
    unfold wpX_fitting
    refine hf _ fl ad la _ ha hR (fun u' hR' => ?_)
    obtain ⟨g0, g1, g2, g3, g4, g5, g6, g7, b1, b2, b3, b4, b5, b6, b7, b8, b9, b10, b11, b12, b13, b14, b15, b16, b17, b18, b19, b20⟩ := u'
    refine hr1 _ fl ad la _ _ hR' (la_tmc x4 (by omega) hla) ?_
    unfold wpX_countUpTo
    refine pk_lt (b + la) 1000 (fun _ => ?_) (fun z => absurd z (by omega))
    refine hr2 _ fl ad la _ _ hR' (by rw [nI_1, Nat.add_right_comm]; exact la_tmc x4 (by omega) hla) ?_
    have h6 : g6 = ft' := hR'.2.2.2.2.2.1
    refine br_f c ?_
    unfold wpX_below
    refine la_ones ?_
    rw [h6]
    rw [h6] at hR'
    exact h _ hR'
theorem la_qnext {dc : Nat} {dr : Nat → Nat} {pc : Nat} {pt : Nat → Nat} {fi : Int32} {ft : Int64} {L : Nat} {tm sh : Nat → Nat} {N : Nat → Nat → Nat} {S : Nat} {sl : Nat → Nat} {si : Nat → Nat → Nat} {sL wl : Nat → Int64} {T : la_T} (hG : la_WG (dc, dr, pc, pt, fi, ft, L, tm, sh, N, S, sl, si, sL, wl, T)) (k : Nat) (hk : k < 60) : ∃ (r : Int32) (fi' : Int32) (ft' : Int64), ∀ (post : Int32 → St1 → Prop) (fl : Bool) (ad la : Nat) (u : St1), ad ≤ 63 → la_RG fl ad la (dc, dr, pc, pt, fi, ft, L, tm, sh, N, S, sl, si, sL, wl, T) u → (∀ u', la_RG fl ad la (dc, dr, pc, pt, fi', ft', L, tm, sh, N, S, sl, si, sL, wl, T) u' → post r u') → wpX_next post u (nI k) := by
  obtain ⟨fi', ft', hf⟩ := la_qfit hG
  obtain ⟨lo, hlo⟩ := la_low (ft' &&& ((((1 : Int64) <<< ((nI (k + 1)).toInt64 &&& 63)) - 1) ^^^ (-1)))
  have go : ∀ (post : Int32 → St1 → Prop) (fl : Bool) (ad la : Nat) (u : St1), ad ≤ 63 → la_RG fl ad la (dc, dr, pc, pt, fi, ft, L, tm, sh, N, S, sl, si, sL, wl, T) u → (∀ u', la_RG fl ad la (dc, dr, pc, pt, fi', ft', L, tm, sh, N, S, sl, si, sL, wl, T) u' → (nI L ≤ lo → post (-2) u') ∧ (¬ nI L ≤ lo → post lo u')) → wpX_next post u (nI k) := by
    intro post fl ad la u ha hR h
    obtain ⟨f0, f1, f2, f3, f4, f5, f6, f7, a1, a2, a3, a4, a5, a6, a7, a8, a9, a10, a11, a12, a13, a14, a15, a16, a17, a18, a19, a20⟩ := u
    unfold wpX_next
    refine hf _ fl ad la _ ha hR (fun u' hR' => ?_)
    obtain ⟨g0, g1, g2, g3, g4, g5, g6, g7, b1, b2, b3, b4, b5, b6, b7, b8, b9, b10, b11, b12, b13, b14, b15, b16, b17, b18, b19, b20⟩ := u'
    have h6 : g6 = ft' := hR'.2.2.2.2.2.1
    have h2 : g2 = nI L := hR'.2.2.2.2.2.2.1
    refine br_t (nI_pos' (by omega)) (pk_lt k 60 (fun _ => ?_) (fun z => absurd z (by omega)))
    unfold wX_next_26 wpX_below
    rw [nI_1, h6]
    refine hlo _ ?_
    have t := h _ hR'
    subst h6 h2
    exact t
  by_cases c : nI L ≤ lo
  · exact ⟨-2, fi', ft', fun post fl ad la u ha hR h => go post fl ad la u ha hR (fun u' hR' => br_t c (h u' hR'))⟩
  · exact ⟨lo, fi', ft', fun post fl ad la u ha hR h => go post fl ad la u ha hR (fun u' hR' => br_f c (h u' hR'))⟩
theorem la_isLine {post : Int32 → Prop} {f0 f1 f2 f3 f4 f5 : Int32} {f6 : Int64} {f7 : Int32} {a1 a2 a3 a4 a5 a6 a7 a8 : Nat → Int32} {a9 : Nat → Int64} {a10 : Nat → Int32} {a11 : Nat → Int64} {a12 a13 a14 a15 a16 a17 a18 a19 a20 : Nat → Int32} {l L : Nat} (hL : L ≤ 60) (hl : l < L) (h2 : f2 = nI L) (h : post 1) : wpX_isLine post (f0, f1, f2, f3, f4, f5, f6, f7, a1, a2, a3, a4, a5, a6, a7, a8, a9, a10, a11, a12, a13, a14, a15, a16, a17, a18, a19, a20) (nI l) := by
  subst h2
  exact br_f (nI_pos (by omega)) (pk_le L l (fun z => absurd z (by omega)) (fun _ => h))
theorem la_qgroup {dc : Nat} {dr : Nat → Nat} {pc : Nat} {pt : Nat → Nat} {fi : Int32} {ft : Int64} {L : Nat} {tm sh : Nat → Nat} {N : Nat → Nat → Nat} {S : Nat} {sl : Nat → Nat} {si : Nat → Nat → Nat} {sL wl : Nat → Int64} {T : la_T} (hG : la_WG (dc, dr, pc, pt, fi, ft, L, tm, sh, N, S, sl, si, sL, wl, T)) (l : Nat) (hl : l < L) : ∃ r : Int32, ∀ (post : Int32 → Prop) (fl : Bool) (ad la : Nat) (u : St1), la_RG fl ad la (dc, dr, pc, pt, fi, ft, L, tm, sh, N, S, sl, si, sL, wl, T) u → post r → wpX_group post u (nI l) := by
  obtain ⟨g1, g2, g3, ⟨w1, w2, w3, w4, w5, w6⟩, x2, x3, x4, x5⟩ := hG
  have hs := w3 l hl
  obtain ⟨r, hr⟩ := la_firstOf sL (sh l) (by omega)
  refine ⟨r, ?_⟩
  intro post fl ad la u hR h
  obtain ⟨f0, f1, f2, f3, f4, f5, f6, f7, a1, a2, a3, a4, a5, a6, a7, a8, a9, a10, a11, a12, a13, a14, a15, a16, a17, a18, a19, a20⟩ := u
  obtain ⟨h0, hD, h1, hP, h5, h6, h2, h3, hL, hS, hT, h11, h3'⟩ := hR
  unfold wpX_group
  refine la_isLine w1 hl h2 (br_f (by decide) ⟨pk_in l 60 (by omega), ?_⟩)
  rw [nI_clamp (by omega), hL.1 l hl]
  exact hr _ f0 f1 f2 f3 f4 f5 f6 f7 a1 a2 a3 a4 a5 a6 a7 a8 a9 a10 a11 a12 a13 a14 a15 a16 a17 a18 a19 a20 hS.2.2.1 h
theorem la_qmembers {dc : Nat} {dr : Nat → Nat} {pc : Nat} {pt : Nat → Nat} {fi : Int32} {ft : Int64} {L : Nat} {tm sh : Nat → Nat} {N : Nat → Nat → Nat} {S : Nat} {sl : Nat → Nat} {si : Nat → Nat → Nat} {sL wl : Nat → Int64} {T : la_T} (hG : la_WG (dc, dr, pc, pt, fi, ft, L, tm, sh, N, S, sl, si, sL, wl, T)) {l : Nat} (hl : l < L) {post : Int32 → Prop} {fl : Bool} {ad la : Nat} {u : St1} (hR : la_RG fl ad la (dc, dr, pc, pt, fi, ft, L, tm, sh, N, S, sl, si, sL, wl, T) u) (h : post (nI (la_ct sh (sh l) L))) : wpX_members post u (nI l) := by
  obtain ⟨g1, g2, g3, ⟨w1, w2, w3, w4, w5, w6⟩, x2, x3, x4, x5⟩ := hG
  have hs := w3 l hl
  obtain ⟨f0, f1, f2, f3, f4, f5, f6, f7, a1, a2, a3, a4, a5, a6, a7, a8, a9, a10, a11, a12, a13, a14, a15, a16, a17, a18, a19, a20⟩ := u
  obtain ⟨h0, hD, h1, hP, h5, h6, h2, h3, hL, hS, hT, h11, h3'⟩ := hR
  unfold wpX_members
  refine la_isLine w1 hl h2 (br_f (by decide) ⟨pk_in l 60 (by omega), ?_⟩)
  rw [nI_clamp (by omega), hL.1 l hl]
  refine ⟨pk_in (sh l) 60 (by omega), ?_⟩
  rw [nI_clamp (by omega), hS.2.2.1]
  refine la_ones ?_
  rw [la_ct_bits (x5 (sh l) hs) 60 (Nat.le_refl 60), show min 60 L = L by omega]
  exact h
theorem la_qlargest {dc : Nat} {dr : Nat → Nat} {pc : Nat} {pt : Nat → Nat} {fi : Int32} {ft : Int64} {L : Nat} {tm sh : Nat → Nat} {N : Nat → Nat → Nat} {S : Nat} {sl : Nat → Nat} {si : Nat → Nat → Nat} {sL wl : Nat → Int64} {T : la_T} (hG : la_WG (dc, dr, pc, pt, fi, ft, L, tm, sh, N, S, sl, si, sL, wl, T)) (x : Int32) : ∃ r : Int32, ∀ (post : Int32 → Prop) (fl : Bool) (ad la : Nat) (u : St1), la_RG fl ad la (dc, dr, pc, pt, fi, ft, L, tm, sh, N, S, sl, si, sL, wl, T) u → post r → wpX_largest post u x := by
  obtain ⟨g1, g2, g3, ⟨w1, w2, w3, w4, w5, w6⟩, x2, x3, x4, x5⟩ := hG
  obtain ⟨r, hr⟩ := la_largest S (by omega) sL x
  refine ⟨r, ?_⟩
  intro post fl ad la u hR h
  obtain ⟨f0, f1, f2, f3, f4, f5, f6, f7, a1, a2, a3, a4, a5, a6, a7, a8, a9, a10, a11, a12, a13, a14, a15, a16, a17, a18, a19, a20⟩ := u
  obtain ⟨h0, hD, h1, hP, h5, h6, h2, h3, hL, hS, hT, h11, h3'⟩ := hR
  exact hr post f0 f1 f2 f3 f4 f5 f6 f7 a1 a2 a3 a4 a5 a6 a7 a8 a9 a10 a11 a12 a13 a14 a15 a16 a17 a18 a19 a20 h3 hS.2.2.1 h
theorem la_qtime {dc : Nat} {dr : Nat → Nat} {pc : Nat} {pt : Nat → Nat} {fi : Int32} {ft : Int64} {L : Nat} {tm sh : Nat → Nat} {N : Nat → Nat → Nat} {S : Nat} {sl : Nat → Nat} {si : Nat → Nat → Nat} {sL wl : Nat → Int64} {T : la_T} (hG : la_WG (dc, dr, pc, pt, fi, ft, L, tm, sh, N, S, sl, si, sL, wl, T)) {l : Nat} (hl : l < L) {post : Int32 → Prop} {fl : Bool} {ad la : Nat} {u : St1} (hR : la_RG fl ad la (dc, dr, pc, pt, fi, ft, L, tm, sh, N, S, sl, si, sL, wl, T) u) (h : post (nI (tm l + la))) : wpX_time post u (nI l) := by
  obtain ⟨g1, g2, g3, ⟨w1, w2, w3, w4, w5, w6⟩, x2, x3, x4, x5⟩ := hG
  obtain ⟨f0, f1, f2, f3, f4, f5, f6, f7, a1, a2, a3, a4, a5, a6, a7, a8, a9, a10, a11, a12, a13, a14, a15, a16, a17, a18, a19, a20⟩ := u
  obtain ⟨h0, hD, h1, hP, h5, h6, h2, h3, hL, hS, hT, h11, h3'⟩ := hR
  unfold wpX_time
  refine la_isLine w1 hl h2 (br_f (by decide) ⟨pk_in l 60 (by omega), ?_⟩)
  rw [nI_clamp (by omega), h3' l hl]
  exact h
theorem la_qlength {dc : Nat} {dr : Nat → Nat} {pc : Nat} {pt : Nat → Nat} {fi : Int32} {ft : Int64} {L : Nat} {tm sh : Nat → Nat} {N : Nat → Nat → Nat} {S : Nat} {sl : Nat → Nat} {si : Nat → Nat → Nat} {sL wl : Nat → Int64} {T : la_T} (hG : la_WG (dc, dr, pc, pt, fi, ft, L, tm, sh, N, S, sl, si, sL, wl, T)) {l : Nat} (hl : l < L) {post : Int32 → Prop} {fl : Bool} {ad la : Nat} {u : St1} (hR : la_RG fl ad la (dc, dr, pc, pt, fi, ft, L, tm, sh, N, S, sl, si, sL, wl, T) u) (h : post (nI (sl (sh l)))) : wpX_length post u (nI l) := by
  obtain ⟨g1, g2, g3, ⟨w1, w2, w3, w4, w5, w6⟩, x2, x3, x4, x5⟩ := hG
  have hs := w3 l hl
  obtain ⟨f0, f1, f2, f3, f4, f5, f6, f7, a1, a2, a3, a4, a5, a6, a7, a8, a9, a10, a11, a12, a13, a14, a15, a16, a17, a18, a19, a20⟩ := u
  obtain ⟨h0, hD, h1, hP, h5, h6, h2, h3, hL, hS, hT, h11, h3'⟩ := hR
  unfold wpX_length
  refine la_isLine w1 hl h2 (br_f (by decide) ⟨pk_in l 60 (by omega), ?_⟩)
  rw [nI_clamp (by omega), hL.1 l hl]
  refine ⟨pk_in (sh l) 60 (by omega), ?_⟩
  rw [nI_clamp (by omega), hS.1 _ hs]
  exact h
theorem la_qat {dc : Nat} {dr : Nat → Nat} {pc : Nat} {pt : Nat → Nat} {fi : Int32} {ft : Int64} {L : Nat} {tm sh : Nat → Nat} {N : Nat → Nat → Nat} {S : Nat} {sl : Nat → Nat} {si : Nat → Nat → Nat} {sL wl : Nat → Int64} {T : la_T} (hG : la_WG (dc, dr, pc, pt, fi, ft, L, tm, sh, N, S, sl, si, sL, wl, T)) {l i : Nat} (hl : l < L) (hi : i < sl (sh l)) {post : Int32 → St1 → Prop} {fl : Bool} {ad la : Nat} {u : St1} (hR : la_RG fl ad la (dc, dr, pc, pt, fi, ft, L, tm, sh, N, S, sl, si, sL, wl, T) u) (h : ∀ u', la_RG fl ad la (dc, dr, pc, pt, fi, ft, L, tm, sh, N, S, sl, si, sL, wl, T) u' → post (nI (la_I fl ad (la_item sh si N l i))) u') : wpX_at post u (nI l) (nI i) := by
  obtain ⟨g1, g2, g3, x1, x2, x3, x4, x5⟩ := hG
  have x1' := x1
  obtain ⟨w1, w2, w3, w4, w5, w6⟩ := x1
  have hs := w3 l hl
  have h8 := (w4 _ hs).2
  obtain ⟨f0, f1, f2, f3, f4, f5, f6, f7, a1, a2, a3, a4, a5, a6, a7, a8, a9, a10, a11, a12, a13, a14, a15, a16, a17, a18, a19, a20⟩ := u
  obtain ⟨h0, hD, h1, hP, h5, h6, h2, h3, hL, hS, hT, h11, h3'⟩ := hR
  unfold wpX_at
  refine la_isLine w1 hl h2 (br_f (by decide) (br_f (nI_pos (by omega)) ⟨pk_in l 60 (by omega), ?_⟩))
  rw [nI_clamp (by omega), hL.1 l hl]
  refine ⟨pk_in (sh l) 60 (by omega), ?_⟩
  rw [nI_clamp (by omega), hS.1 _ hs]
  refine pk_lt i (sl (sh l)) (fun _ => ?_) (fun z => absurd z (by omega))
  refine la_read x1' hL hl (fun fr b16 b17 hb => ⟨pk_in i 8 (by omega), ?_⟩)
  rw [nI_clamp (by omega), hb i hi]
  exact h _ ⟨h0, hD, h1, hP, h5, h6, h2, h3, hL, hS, hT, h11, h3'⟩
theorem la_qhaving {dc : Nat} {dr : Nat → Nat} {pc : Nat} {pt : Nat → Nat} {fi : Int32} {ft : Int64} {L : Nat} {tm sh : Nat → Nat} {N : Nat → Nat → Nat} {S : Nat} {sl : Nat → Nat} {si : Nat → Nat → Nat} {sL wl : Nat → Int64} {T : la_T} (hG : la_WG (dc, dr, pc, pt, fi, ft, L, tm, sh, N, S, sl, si, sL, wl, T)) (x : Nat) (hx : la_it x) : ∃ r : Int32, ∀ (post : Int32 → St1 → Prop) (fl : Bool) (ad la : Nat) (u : St1), ad ≤ 63 → la_RG fl ad la (dc, dr, pc, pt, fi, ft, L, tm, sh, N, S, sl, si, sL, wl, T) u → (∀ u', la_RG fl ad la (dc, dr, pc, pt, fi, ft, L, tm, sh, N, S, sl, si, sL, wl, T) u' → post r u') → wpX_having post u (nI (la_I fl ad x)) := by
  obtain ⟨g1, g2, g3, x1, x2, x3, x4, x5⟩ := hG
  obtain ⟨r, hr⟩ := la_having L S sh sl si N x1 wl x hx
  refine ⟨r, ?_⟩
  intro post fl ad la u ha hR h
  obtain ⟨f0, f1, f2, f3, f4, f5, f6, f7, a1, a2, a3, a4, a5, a6, a7, a8, a9, a10, a11, a12, a13, a14, a15, a16, a17, a18, a19, a20⟩ := u
  obtain ⟨h0, hD, h1, hP, h5, h6, h2, h3, hL, hS, hT, h11, h3'⟩ := hR
  exact hr post fl ad f0 f1 f2 f3 f4 f5 f6 f7 a1 a2 a3 a4 a5 a6 a7 a8 a9 a10 a11 a12 a13 a14 a15 a16 a17 a18 a19 a20 ha h2 h3 hL h11 (fun fr b17 => h _ ⟨h0, hD, h1, hP, h5, h6, h2, h3, hL, hS, hT, h11, h3'⟩)
theorem la_qtotal {dc : Nat} {dr : Nat → Nat} {pc : Nat} {pt : Nat → Nat} {fi : Int32} {ft : Int64} {L : Nat} {tm sh : Nat → Nat} {N : Nat → Nat → Nat} {S : Nat} {sl : Nat → Nat} {si : Nat → Nat → Nat} {sL wl : Nat → Int64} {T : la_T} (hG : la_WG (dc, dr, pc, pt, fi, ft, L, tm, sh, N, S, sl, si, sL, wl, T)) {l i w : Nat} (hl : l < L) (hi : i < sl (sh l)) (hb : si (sh l) i = 1000) (hw : w < 3) {post : Int32 → St1 → Prop} {fl : Bool} {ad la : Nat} {u : St1} (ha : ad ≤ 63) (hR : la_RG fl ad la (dc, dr, pc, pt, fi, ft, L, tm, sh, N, S, sl, si, sL, wl, T) u)
    (h : ∀ u', la_RG fl ad la (dc, dr, pc, pt, fi, ft, L, tm, sh, N, S, sl, si, sL, wl, T) u' → post (if w = 0 then la_v ad (la_mn N sh (sh l) i L) 1000 else if w = 1 then la_v ad (la_mx N sh (sh l) i L) (-1) else nI (la_sum N sh (sh l) i L + ad * la_ct sh (sh l) L)) u') : wpX_column post u (nI l) (nI i) (nI w) := by
  obtain ⟨g1, g2, g3, x1, x2, x3, x4, x5⟩ := hG
  have x1' := x1
  obtain ⟨w1, w2, w3, w4, w5, w6⟩ := x1
  have hs := w3 l hl
  have h8 := (w4 _ hs).2
  obtain ⟨f0, f1, f2, f3, f4, f5, f6, f7, a1, a2, a3, a4, a5, a6, a7, a8, a9, a10, a11, a12, a13, a14, a15, a16, a17, a18, a19, a20⟩ := u
  obtain ⟨h0, hD, h1, hP, h5, h6, h2, h3, hL, hS, hT, h11, h3'⟩ := hR
  unfold wpX_column
  refine la_isLine w1 hl h2 (br_f (by decide) (br_f (nI_pos (by omega)) (pk_le w 3 (fun _ => ⟨pk_in l 60 (by omega), ?_⟩) (fun z => absurd z (by omega)))))
  rw [nI_clamp (by omega)]
  refine nm_r (hL.1 l hl) (br_f (nI_pos (by omega)) ⟨pk_in (sh l) 60 (by omega), ?_⟩)
  rw [nI_clamp (by omega), hS.1 _ hs]
  refine pk_le (sl (sh l)) i (fun z => absurd z (by omega)) (fun _ => ⟨pk_in (8 * sh l + i) 480 (by omega) (hx := la_ix (sh l) i), ?_⟩)
  rw [la_ix, nI_clamp (by omega)]
  refine br_t ((la_8 (w5 _ i hs hi) (hS.2.1 _ i hs hi)).mpr hb) (pk_eq w 3 (fun z => absurd z (by omega)) (fun _ => ?_))
  exact la_total x1' ha h2 hL hs hi hb hw (fun fr b17 => h _ ⟨h0, hD, h1, hP, h5, h6, h2, h3, hL, hS, hT, h11, h3'⟩)
theorem la_qdiff {dc : Nat} {dr : Nat → Nat} {pc : Nat} {pt : Nat → Nat} {fi : Int32} {ft : Int64} {L : Nat} {tm sh : Nat → Nat} {N : Nat → Nat → Nat} {S : Nat} {sl : Nat → Nat} {si : Nat → Nat → Nat} {sL wl : Nat → Int64} {T : la_T} (hG : la_WG (dc, dr, pc, pt, fi, ft, L, tm, sh, N, S, sl, si, sL, wl, T)) {l i : Nat} (hl : l < L) (hi : i < sl (sh l)) (hb : si (sh l) i = 1000) : ∃ r : Int32, ∀ (post : Int32 → St1 → Prop) (fl : Bool) (ad la : Nat) (u : St1), ad ≤ 63 → la_RG fl ad la (dc, dr, pc, pt, fi, ft, L, tm, sh, N, S, sl, si, sL, wl, T) u → (∀ u', la_RG fl ad la (dc, dr, pc, pt, fi, ft, L, tm, sh, N, S, sl, si, sL, wl, T) u' → post r u') → wpX_column post u (nI l) (nI i) 3 := by
  obtain ⟨g1, g2, g3, x1, x2, x3, x4, x5⟩ := hG
  have x1' := x1
  obtain ⟨w1, w2, w3, w4, w5, w6⟩ := x1
  have hs := w3 l hl
  have h8 := (w4 _ hs).2
  obtain ⟨r, hr⟩ := la_diff L S sh sl si N x1' (sh l) hs i hi hb
  refine ⟨r, ?_⟩
  intro post fl ad la u ha hR h
  obtain ⟨f0, f1, f2, f3, f4, f5, f6, f7, a1, a2, a3, a4, a5, a6, a7, a8, a9, a10, a11, a12, a13, a14, a15, a16, a17, a18, a19, a20⟩ := u
  obtain ⟨h0, hD, h1, hP, h5, h6, h2, h3, hL, hS, hT, h11, h3'⟩ := hR
  unfold wpX_column
  refine la_isLine w1 hl h2 (br_f (by decide) (br_f (by decide) (br_t (by decide) ⟨pk_in l 60 (by omega), ?_⟩)))
  rw [nI_clamp (by omega)]
  refine nm_r (hL.1 l hl) (br_f (nI_pos (by omega)) ⟨pk_in (sh l) 60 (by omega), ?_⟩)
  rw [nI_clamp (by omega), hS.1 _ hs]
  refine pk_le (sl (sh l)) i (fun z => absurd z (by omega)) (fun _ => ⟨pk_in (8 * sh l + i) 480 (by omega) (hx := la_ix (sh l) i), ?_⟩)
  rw [la_ix, nI_clamp (by omega)]
  refine br_t ((la_8 (w5 _ i hs hi) (hS.2.1 _ i hs hi)).mpr hb) (br_t rfl ?_)
  exact hr _ fl ad f0 f1 f2 f3 f4 f5 f6 f7 a1 a2 a3 a4 a5 a6 a7 a8 a9 a10 a11 a12 a13 a14 a15 a16 a17 a18 a19 a20 ha h2 hL (fun fr b17 b18 => h _ ⟨h0, hD, h1, hP, h5, h6, h2, h3, hL, hS, hT, h11, h3'⟩)
end
section
/-! ===== what changes the picture: item, part, blank, write, recall, expire ===== -/
theorem la_oitem (G : la_G) (hG : la_WG G) (x : Nat) (hx : la_it x) : ∃ (r : Int32) (G' : la_G), la_WG G' ∧ ∀ (post : Int32 → St1 → Prop) (fl : Bool) (ad la : Nat) (u : St1), ad ≤ 63 → la_RG fl ad la G u → (∀ u', la_RG fl ad la G' u' → post r u') → wpX_item post u (nI (la_I fl ad x)) := by
  obtain ⟨dc, dr, pc, pt, fi, ft, X⟩ := G
  have hG' := hG
  obtain ⟨g1, g2, g3, g4⟩ := hG
  by_cases c : dc < 8
  · refine ⟨nI (dc + 1), (dc + 1, fun i => if i = dc then x else dr i, pc, pt, fi, ft, X), ⟨by omega, ?_, g3, g4⟩, ?_⟩
    · intro i hi
      show la_it (if i = dc then x else dr i)
      split
      · exact hx
      · exact g2 i (by omega)
    intro post fl ad la u ha hR h
    obtain ⟨f0, f1, f2, f3, f4, f5, f6, f7, a1, a2, a3, a4, a5, a6, a7, a8, a9, a10, a11, a12, a13, a14, a15, a16, a17, a18, a19, a20⟩ := u
    obtain ⟨h0, hD, h1, hP, h5, h6, hX⟩ := hR
    subst h0
    unfold wpX_item
    refine la_isItem _ (la_I_ok ha hx) (br_f (by decide) (pk_lt dc 8 (fun _ => ⟨pk_in dc 8 c, ?_⟩) (fun z => absurd z (by omega))))
    rw [nI_clamp (by omega)]
    refine nm_e (nm_r (nI_1 dc) (h _ ⟨rfl, ?_, h1, hP, h5, h6, hX⟩))
    intro i hi
    show upd a1 dc (nI (la_I fl ad x)) i = nI (la_I fl ad (if i = dc then x else dr i))
    by_cases e : i = dc
    · rw [e, pk_us, if_pos rfl]
    · rw [pk_un e, if_neg e]
      exact hD i (by omega)
  · refine ⟨-3, (dc, dr, pc, pt, fi, ft, X), hG', ?_⟩
    intro post fl ad la u ha hR h
    obtain ⟨f0, f1, f2, f3, f4, f5, f6, f7, a1, a2, a3, a4, a5, a6, a7, a8, a9, a10, a11, a12, a13, a14, a15, a16, a17, a18, a19, a20⟩ := u
    have t := h _ hR
    obtain ⟨h0, hD, h1, hP, h5, h6, hX⟩ := hR
    subst h0
    unfold wpX_item
    exact la_isItem _ (la_I_ok ha hx) (br_f (by decide) (pk_lt dc 8 (fun z => absurd z c) (fun _ => t)))
theorem la_P_ok {fl : Bool} {ad p : Nat} (ha : ad ≤ 63) (h : la_pa p) : la_P fl ad p < 24 ∨ (1000 ≤ la_P fl ad p ∧ la_P fl ad p < 2000) ∨ (2000 ≤ la_P fl ad p ∧ la_P fl ad p ≤ 2002) ∨ (3000 ≤ la_P fl ad p ∧ la_P fl ad p < 4000) := by
  rcases h with h | h | h
  · have h1 := la_I_ok (fl := fl) ha h
    unfold la_it at h
    rw [la_P_lo (by omega)]
    omega
  · rw [la_P_mid (by omega) (by omega)]
    omega
  · rw [la_P_hi (by omega)]
    omega
theorem la_opart (G : la_G) (hG : la_WG G) (x : Nat) (hx : la_pa x) : ∃ (r : Int32) (G' : la_G), la_WG G' ∧ ∀ (post : Int32 → St1 → Prop) (fl : Bool) (ad la : Nat) (u : St1), ad ≤ 63 → la_RG fl ad la G u → (∀ u', la_RG fl ad la G' u' → post r u') → wpX_part post u (nI (la_P fl ad x)) := by
  obtain ⟨dc, dr, pc, pt, fi, ft, X⟩ := G
  have hG' := hG
  obtain ⟨g1, g2, ⟨p1, p2⟩, g4⟩ := hG
  by_cases c : pc < 8
  · refine ⟨nI (pc + 1), (dc, dr, pc + 1, fun i => if i = pc then x else pt i, 0, ft, X), ⟨g1, g2, ⟨by omega, ?_⟩, g4⟩, ?_⟩
    · intro i hi
      show la_pa (if i = pc then x else pt i)
      split
      · exact hx
      · exact p2 i (by omega)
    intro post fl ad la u ha hR h
    obtain ⟨f0, f1, f2, f3, f4, f5, f6, f7, a1, a2, a3, a4, a5, a6, a7, a8, a9, a10, a11, a12, a13, a14, a15, a16, a17, a18, a19, a20⟩ := u
    obtain ⟨h0, hD, h1, hP, h5, h6, hX⟩ := hR
    subst h1
    unfold wpX_part
    refine la_isPart _ (la_P_ok ha hx) (br_f (by decide) (pk_lt pc 8 (fun _ => ⟨pk_in pc 8 c, ?_⟩) (fun z => absurd z (by omega))))
    rw [nI_clamp (by omega)]
    refine nm_e (nm_r (nI_1 pc) (h _ ⟨h0, hD, rfl, ?_, rfl, h6, hX⟩))
    intro i hi
    show upd a2 pc (nI (la_P fl ad x)) i = nI (la_P fl ad (if i = pc then x else pt i))
    by_cases e : i = pc
    · rw [e, pk_us, if_pos rfl]
    · rw [pk_un e, if_neg e]
      exact hP i (by omega)
  · refine ⟨-3, (dc, dr, pc, pt, fi, ft, X), hG', ?_⟩
    intro post fl ad la u ha hR h
    obtain ⟨f0, f1, f2, f3, f4, f5, f6, f7, a1, a2, a3, a4, a5, a6, a7, a8, a9, a10, a11, a12, a13, a14, a15, a16, a17, a18, a19, a20⟩ := u
    have t := h _ hR
    obtain ⟨h0, hD, h1, hP, h5, h6, hX⟩ := hR
    subst h1
    unfold wpX_part
    exact la_isPart _ (la_P_ok ha hx) (br_f (by decide) (pk_lt pc 8 (fun z => absurd z c) (fun _ => t)))
theorem la_oblank (G : la_G) (hG : la_WG G) : ∃ (r : Int32) (G' : la_G), la_WG G' ∧ ∀ (post : Int32 → St1 → Prop) (fl : Bool) (ad la : Nat) (u : St1), la_RG fl ad la G u → (∀ u', la_RG fl ad la G' u' → post r u') → wpX_blank post u := by
  obtain ⟨dc, dr, pc, pt, fi, ft, X⟩ := G
  obtain ⟨g1, g2, g3, g4⟩ := hG
  refine ⟨nI pc, (dc, dr, 0, pt, 0, ft, X), ⟨g1, g2, ⟨by omega, fun k hk => absurd hk (by omega)⟩, g4⟩, ?_⟩
  intro post fl ad la u hR h
  obtain ⟨f0, f1, f2, f3, f4, f5, f6, f7, a1, a2, a3, a4, a5, a6, a7, a8, a9, a10, a11, a12, a13, a14, a15, a16, a17, a18, a19, a20⟩ := u
  obtain ⟨h0, hD, h1, hP, h5, h6, hX⟩ := hR
  subst h1
  exact h _ ⟨h0, hD, rfl, fun k hk => absurd hk (by omega), rfl, h6, hX⟩
theorem la_owrite (G : la_G) (hG : la_WG G) (t : Nat) (ht : t ≤ 800) : ∃ (r : Int32) (G' : la_G), la_WG G' ∧ ∀ (post : Int32 → St1 → Prop) (fl : Bool) (ad la : Nat) (u : St1), ad ≤ 63 → la ≤ 127 → la_RG fl ad la G u → (∀ u', la_RG fl ad la G' u' → post r u') → wpX_write post u (nI (t + la)) := by
  obtain ⟨dc, dr, pc, pt, fi, ft, X⟩ := G
  have hG' := hG
  obtain ⟨g1, g2, g3, g4⟩ := hG
  have hL60 : X.1 ≤ 60 := g4.1.1
  have w35 : ∃ (r : Int32) (G' : la_G), la_WG G' ∧ ∀ (post : Int32 → St1 → Prop) (fl : Bool) (ad la : Nat) (f0 f1 f2 f3 f4 f5 : Int32) (f6 : Int64) (f7 : Int32) (a1 a2 a3 a4 a5 a6 a7 a8 : Nat → Int32) (a9 : Nat → Int64) (a10 : Nat → Int32) (a11 : Nat → Int64) (a12 a13 a14 a15 a16 a17 a18 a19 a20 : Nat → Int32), ad ≤ 63 → la_RG fl ad la (dc, dr, pc, pt, fi, ft, X) (f0, f1, f2, f3, f4, f5, f6, f7, a1, a2, a3, a4, a5, a6, a7, a8, a9, a10, a11, a12, a13, a14, a15, a16, a17, a18, a19, a20) → (∀ u', la_RG fl ad la G' u' → post r u') → wX_write_35 post (nI (t + la)) f0 f1 f2 f3 f4 f5 f6 f7 a1 a2 a3 a4 a5 a6 a7 a8 a9 a10 a11 a12 a13 a14 a15 a16 a17 a18 a19 a20 := by
    by_cases c0 : dc = 0
    · refine ⟨-2, (dc, dr, pc, pt, fi, ft, X), hG', ?_⟩
      intro post fl ad la f0 f1 f2 f3 f4 f5 f6 f7 a1 a2 a3 a4 a5 a6 a7 a8 a9 a10 a11 a12 a13 a14 a15 a16 a17 a18 a19 a20 ha hR h
      have y := h _ hR
      have h0 : f0 = nI dc := hR.1
      subst h0
      exact pk_eq dc 0 (fun _ => y) (fun z => absurd c0 z)
    · by_cases c1 : X.1 < 60
      · obtain ⟨X', q1, q2, q3⟩ := la_wd dc dr (by omega) g1 g2 X g4 c1 t ht
        refine ⟨nI X.1, (0, dr, pc, pt, 0, ft, X'), ⟨by omega, fun i hi => absurd hi (by omega), g3, q1⟩, ?_⟩
        intro post fl ad la f0 f1 f2 f3 f4 f5 f6 f7 a1 a2 a3 a4 a5 a6 a7 a8 a9 a10 a11 a12 a13 a14 a15 a16 a17 a18 a19 a20 ha hR h
        obtain ⟨h0, hD, h1, hP, h5, h6, hX⟩ := hR
        have h2 : f2 = nI X.1 := hX.1
        have y := fun (P : Int32 → St1 → Prop) hP => q3 P fl ad la f0 f1 f2 f3 f4 f5 f6 f7 a1 a2 a3 a4 a5 a6 a7 a8 a9 a10 a11 a12 a13 a14 a15 a16 a17 a18 a19 a20 ha h0 hD hX hP
        subst h0 h2
        refine pk_eq dc 0 (fun z => absurd z c0) (fun _ => pk_lt X.1 60 (fun _ => ?_) (fun z => absurd z (by omega)))
        refine y _ ?_
        intro g2 g3 g4 b3 b4 b5 b6 b7 b8 b9 b10 b11 b12 b13 b14 b15 hX'
        exact h _ ⟨rfl, fun i hi => absurd hi (by omega), h1, hP, rfl, h6, hX'⟩
      · refine ⟨-3, (dc, dr, pc, pt, fi, ft, X), hG', ?_⟩
        intro post fl ad la f0 f1 f2 f3 f4 f5 f6 f7 a1 a2 a3 a4 a5 a6 a7 a8 a9 a10 a11 a12 a13 a14 a15 a16 a17 a18 a19 a20 ha hR h
        have y := h _ hR
        obtain ⟨h0, hD, h1, hP, h5, h6, hX⟩ := hR
        have h2 : f2 = nI X.1 := hX.1
        subst h0 h2
        exact pk_eq dc 0 (fun z => absurd z c0) (fun _ => pk_lt X.1 60 (fun z => absurd z c1) (fun _ => y))
  obtain ⟨r, G', q1, q2⟩ := w35
  by_cases c : X.1 = 0 ∨ X.2.1 (X.1 - 1) ≤ t
  · refine ⟨r, G', q1, ?_⟩
    intro post fl ad la u ha hla hR h
    obtain ⟨f0, f1, f2, f3, f4, f5, f6, f7, a1, a2, a3, a4, a5, a6, a7, a8, a9, a10, a11, a12, a13, a14, a15, a16, a17, a18, a19, a20⟩ := u
    have y := q2 post fl ad la f0 f1 f2 f3 f4 f5 f6 f7 a1 a2 a3 a4 a5 a6 a7 a8 a9 a10 a11 a12 a13 a14 a15 a16 a17 a18 a19 a20 ha hR h
    have hX := hR.2.2.2.2.2.2
    have h2 : f2 = nI X.1 := hX.1
    have h3' : ∀ l, l < X.1 → a3 l = nI (X.2.1 l + la) := hX.2.2.2.2.2.2
    subst h2
    unfold wpX_write
    refine br_f (nI_pos (by omega)) (pk_lt 1000 (t + la) (fun z => absurd z (by omega)) (fun _ => pk_le X.1 0 (fun _ => y) (fun z => ?_)))
    obtain ⟨L', hL'⟩ : ∃ L', X.1 = L' + 1 := ⟨X.1 - 1, by omega⟩
    have tm8 : X.2.1 L' ≤ 800 := g4.2.2.2.1 L' (by omega)
    have e3 : a3 L' = nI (X.2.1 L' + la) := h3' L' (by omega)
    rw [hL'] at c y ⊢
    rw [nI_pred, nI_clamp (by omega), e3]
    exact ⟨pk_in L' 60 (by omega), pk_le (X.2.1 L' + la) (t + la) (fun _ => y) (fun z2 => absurd c (by simp only [Nat.add_sub_cancel]; omega))⟩
  · refine ⟨-1, (dc, dr, pc, pt, fi, ft, X), hG', ?_⟩
    intro post fl ad la u ha hla hR h
    obtain ⟨f0, f1, f2, f3, f4, f5, f6, f7, a1, a2, a3, a4, a5, a6, a7, a8, a9, a10, a11, a12, a13, a14, a15, a16, a17, a18, a19, a20⟩ := u
    have y := h _ hR
    have hX := hR.2.2.2.2.2.2
    have h2 : f2 = nI X.1 := hX.1
    have h3' : ∀ l, l < X.1 → a3 l = nI (X.2.1 l + la) := hX.2.2.2.2.2.2
    subst h2
    unfold wpX_write
    refine br_f (nI_pos (by omega)) (pk_lt 1000 (t + la) (fun z => absurd z (by omega)) (fun _ => pk_le X.1 0 (fun z => absurd z (by omega)) (fun z => ?_)))
    obtain ⟨L', hL'⟩ : ∃ L', X.1 = L' + 1 := ⟨X.1 - 1, by omega⟩
    have tm8 : X.2.1 L' ≤ 800 := g4.2.2.2.1 L' (by omega)
    have e3 : a3 L' = nI (X.2.1 L' + la) := h3' L' (by omega)
    rw [hL'] at c y ⊢
    rw [nI_pred, nI_clamp (by omega), e3]
    exact ⟨pk_in L' 60 (by omega), pk_le (X.2.1 L' + la) (t + la) (fun z2 => absurd (Or.inr (by simp only [Nat.add_sub_cancel]; omega)) c) (fun _ => y)⟩
theorem la_orecall (G : la_G) (hG : la_WG G) (l : Nat) (hl8 : l < 60) : ∃ (r : Int32) (G' : la_G), la_WG G' ∧ ∀ (post : Int32 → St1 → Prop) (fl : Bool) (ad la : Nat) (u : St1), la_RG fl ad la G u → (∀ u', la_RG fl ad la G' u' → post r u') → wpX_recall post u (nI l) := by
  obtain ⟨dc, dr, pc, pt, fi, ft, L, tm, sh, N, S, sl, si, sL, wl, T⟩ := G
  have hG' := hG
  obtain ⟨g1, g2, g3, g4⟩ := hG
  have g4' := g4
  obtain ⟨x1, x2, x3, x4, x5⟩ := g4
  have x1' := x1
  obtain ⟨w1, w2, w3, w4, w5, w6⟩ := x1
  by_cases hl : l < L
  · have hs := w3 l hl
    have hs8 := w4 _ hs
    refine ⟨nI (sl (sh l)), (sl (sh l), la_item sh si N l, pc, pt, fi, ft, L, tm, sh, N, S, sl, si, sL, wl, T), ⟨hs8.2, fun i hi => la_item_ok x1' hl hi, g3, g4'⟩, ?_⟩
    intro post fl ad la u hR h
    obtain ⟨f0, f1, f2, f3, f4, f5, f6, f7, a1, a2, a3, a4, a5, a6, a7, a8, a9, a10, a11, a12, a13, a14, a15, a16, a17, a18, a19, a20⟩ := u
    obtain ⟨h0, hD, h1, hP, h5, h6, h2, h3, hL, hS, hT, h11, h3'⟩ := hR
    unfold wpX_recall
    refine la_isLine w1 hl h2 (br_f (by decide) (la_read x1' hL hl (fun fr b16 b17 hb => ⟨pk_in l 60 (by omega), ?_⟩)))
    rw [nI_clamp (by omega), hL.1 l hl]
    refine ⟨pk_in (sh l) 60 (by omega), ?_⟩
    rw [nI_clamp (by omega)]
    refine nm_r (hS.1 _ hs) ?_
    refine pk_loop (fun k i b => wX_recall_32 post (nI (sl (sh l))) f1 f2 f3 f4 f5 f6 fr k (nI i) b a2 a3 a4 a5 a6 a7 a8 a9 a10 a11 a12 a13 a14 a15 b16 b17 a18 a19 a20) (fun i b => ∀ j, j < i → b j = nI (la_I fl ad (la_item sh si N l j))) (sl (sh l)) 0 a1 (by omega) (fun j hj => absurd hj (by omega)) ?_ ?_
    · intro k b hb1
      exact pk_le (sl (sh l)) (sl (sh l)) (fun _ => h _ ⟨rfl, hb1, h1, hP, h5, h6, h2, h3, hL, hS, hT, h11, h3'⟩) (fun z => absurd z (by omega))
    · intro k i b hi hb1 hw
      refine pk_le (sl (sh l)) i (fun z => absurd z (by omega)) (fun _ => ⟨pk_in i 8 (by omega), pk_in i 8 (by omega), ?_⟩)
      rw [nI_clamp (by omega)]
      refine nm_e (nm_r (nI_1 i) (hw _ ?_))
      intro j hj
      by_cases e : j = i
      · rw [e, pk_us]
        exact hb i hi
      · rw [pk_un e]
        exact hb1 j (by omega)
  · refine ⟨-1, (dc, dr, pc, pt, fi, ft, L, tm, sh, N, S, sl, si, sL, wl, T), hG', ?_⟩
    intro post fl ad la u hR h
    obtain ⟨f0, f1, f2, f3, f4, f5, f6, f7, a1, a2, a3, a4, a5, a6, a7, a8, a9, a10, a11, a12, a13, a14, a15, a16, a17, a18, a19, a20⟩ := u
    have y := h _ hR
    obtain ⟨h0, hD, h1, hP, h5, h6, h2, h3, hL, hS, hT, h11, h3'⟩ := hR
    subst h2
    unfold wpX_recall wpX_isLine
    exact br_f (nI_pos (by omega)) (pk_le L l (fun _ => br_t rfl y) (fun z => absurd z (by omega)))
/-- the rest: what stands in rest, restLength, restTime for the kept lines -/
def la_RR (fl : Bool) (ad la g kept : Nat) (tm sh sl : Nat → Nat) (si N : Nat → Nat → Nat) (a18 a19 a20 : Nat → Int32) : Prop :=
  ∀ k, k < kept → a19 k = nI (sl (sh (g + k))) ∧ a20 k = nI (tm (g + k) + la) ∧ ∀ i, i < sl (sh (g + k)) → a18 (8 * k + i) = nI (la_I fl ad (la_item sh si N (g + k) i))
theorem la_again (L S : Nat) (tm sh sl : Nat → Nat) (si N : Nat → Nat → Nat) (hW : la_WL L S sh sl si N) (htm : ∀ l, l < L → tm l ≤ 800) (g kept : Nat) (hg : g + kept = L) (X0 : la_X) (hX0 : la_WX X0) (hX00 : X0.1 = 0) : ∀ k, k ≤ kept → ∃ Xk : la_X, la_WX Xk ∧ Xk.1 = k ∧
    ∀ (post : Int32 → St1 → Prop) (fl : Bool) (ad la K : Nat) (f0 f1 f2 f3 f4 f5 : Int32) (f6 : Int64) (f7 : Int32) (a1 a2 a3 a4 a5 a6 a7 a8 : Nat → Int32) (a9 : Nat → Int64) (a10 : Nat → Int32) (a11 : Nat → Int64) (a12 a13 a14 a15 a16 a17 a18 a19 a20 : Nat → Int32), ad ≤ 63 → la_RR fl ad la g kept tm sh sl si N a18 a19 a20 → la_RX fl ad la X0 f2 f3 f4 a3 a4 a5 a6 a7 a8 a9 a10 a11 a12 a13 a14 a15 →
    (∀ g0 c1 (g2 : Int32) (g3 : Int32) (g4 : Int32) (b3 : Nat → Int32) (b4 : Nat → Int32) (b5 : Nat → Int32) (b6 : Nat → Int32) (b7 : Nat → Int32) (b8 : Nat → Int32) (b9 : Nat → Int64) (b10 : Nat → Int32) (b11 : Nat → Int64) (b12 : Nat → Int32) (b13 : Nat → Int32) (b14 : Nat → Int32) (b15 : Nat → Int32), la_RX fl ad la Xk g2 g3 g4 b3 b4 b5 b6 b7 b8 b9 b10 b11 b12 b13 b14 b15 → wX_expire_131 post (nI g) (nI kept) K (nI k) g0 f1 g2 g3 g4 0 f6 f7 c1 a2 b3 b4 b5 b6 b7 b8 b9 b10 b11 b12 b13 b14 b15 a16 a17 a18 a19 a20) → wX_expire_131 post (nI g) (nI kept) (K + k) 0 f0 f1 f2 f3 f4 0 f6 f7 a1 a2 a3 a4 a5 a6 a7 a8 a9 a10 a11 a12 a13 a14 a15 a16 a17 a18 a19 a20 := by
  have hW' := hW
  obtain ⟨w1, w2, w3, w4, w5, w6⟩ := hW
  intro k
  induction k with
  | zero =>
    intro _
    refine ⟨X0, hX0, hX00, ?_⟩
    intro post fl ad la K f0 f1 f2 f3 f4 f5 f6 f7 a1 a2 a3 a4 a5 a6 a7 a8 a9 a10 a11 a12 a13 a14 a15 a16 a17 a18 a19 a20 ha hr hX h
    exact h _ _ _ _ _ _ _ _ _ _ _ _ _ _ _ _ _ _ hX
  | succ k ih =>
    intro hk
    obtain ⟨X1, u1, u2, u3⟩ := ih (by omega)
    have hs := w3 (g + k) (by omega)
    have hs8 := w4 _ hs
    obtain ⟨X2, v1, v2, v3⟩ := la_wd (sl (sh (g + k))) (la_item sh si N (g + k)) hs8.1 hs8.2 (fun i hi => la_item_ok hW' (by omega) hi) X1 u1 (by omega) (tm (g + k)) (htm _ (by omega))
    refine ⟨X2, v1, by omega, ?_⟩
    intro post fl ad la K f0 f1 f2 f3 f4 f5 f6 f7 a1 a2 a3 a4 a5 a6 a7 a8 a9 a10 a11 a12 a13 a14 a15 a16 a17 a18 a19 a20 ha hr hX h
    rw [show K + (k + 1) = (K + 1) + k by omega]
    refine u3 post fl ad la (K + 1) f0 f1 f2 f3 f4 f5 f6 f7 a1 a2 a3 a4 a5 a6 a7 a8 a9 a10 a11 a12 a13 a14 a15 a16 a17 a18 a19 a20 ha hr hX ?_
    intro g0 c1 g2 g3 g4 b3 b4 b5 b6 b7 b8 b9 b10 b11 b12 b13 b14 b15 hX1
    obtain ⟨q1, q2, q3⟩ := hr k (by omega)
    refine pk_le kept k (fun z => absurd z (by omega)) (fun _ => ⟨pk_in k 60 (by omega), ?_⟩)
    rw [nI_clamp (by omega)]
    refine nm_r q1 ?_
    refine pk_loop (fun n i b => wX_expire_151 post (wX_expire_131 post (nI g) (nI kept) K) (nI g) (nI kept) (nI k) (nI (sl (sh (g + k)))) f1 g2 g3 g4 0 f6 f7 n (nI i) b a2 b3 b4 b5 b6 b7 b8 b9 b10 b11 b12 b13 b14 b15 a16 a17 a18 a19 a20) (fun i b => ∀ j, j < i → b j = nI (la_I fl ad (la_item sh si N (g + k) j))) (sl (sh (g + k))) 0 c1 (by omega) (fun j hj => absurd hj (by omega)) ?_ ?_
    · intro n b hb
      refine pk_le (sl (sh (g + k))) (sl (sh (g + k))) (fun _ => ⟨pk_in k 60 (by omega), ?_⟩) (fun z => absurd z (by omega))
      rw [nI_clamp (by omega), q2]
      refine v3 _ fl ad la (nI (sl (sh (g + k)))) f1 g2 g3 g4 0 f6 f7 b a2 b3 b4 b5 b6 b7 b8 b9 b10 b11 b12 b13 b14 b15 a16 a17 a18 a19 a20 ha rfl hb hX1 ?_
      intro h2 h3 h4 d3 d4 d5 d6 d7 d8 d9 d10 d11 d12 d13 d14 d15 hX2
      exact nm_r (nI_1 k) (h _ _ _ _ _ _ _ _ _ _ _ _ _ _ _ _ _ _ hX2)
    · intro n i b hi hb hw
      refine pk_le (sl (sh (g + k))) i (fun z => absurd z (by omega)) (fun _ => ⟨pk_in (8 * k + i) 480 (by omega) (hx := la_ix k i), pk_in i 8 (by omega), ?_⟩)
      rw [la_ix, nI_clamp (show 8 * k + i < 2 ^ 31 by omega), nI_clamp (show i < 2 ^ 31 by omega)]
      refine nm_e (nm_r (nI_1 i) (hw _ ?_))
      intro j hj
      by_cases e : j = i
      · rw [e, pk_us]
        exact q3 i hi
      · rw [pk_un e]
        exact hb j (by omega)
theorem la_keep {post : St1 → Prop} {f0 f1 f2 f3 f4 f5 : Int32} {f6 : Int64} {f7 : Int32} {a1 a2 a3 a4 a5 a6 a7 a8 : Nat → Int32} {a9 : Nat → Int64} {a10 : Nat → Int32} {a11 : Nat → Int64} {a12 a13 a14 a15 a16 a17 a18 a19 a20 : Nat → Int32} {dc : Nat} (hdc : dc ≤ 8) (h0 : f0 = nI dc) (H : ∀ b16, (∀ i, i < dc → b16 i = a1 i) → post (f0, f1, f2, f3, f4, f5, f6, f7, a1, a2, a3, a4, a5, a6, a7, a8, a9, a10, a11, a12, a13, a14, a15, b16, upd a17 0 (nI dc), a18, a19, a20)) : wpX_keepDraft post (f0, f1, f2, f3, f4, f5, f6, f7, a1, a2, a3, a4, a5, a6, a7, a8, a9, a10, a11, a12, a13, a14, a15, a16, a17, a18, a19, a20) := by
  subst h0
  unfold wpX_keepDraft
  refine nm_e (pk_loop (fun k i b => wX_keepDraft_12 post (nI dc) f1 f2 f3 f4 f5 f6 f7 k (nI i) a1 a2 a3 a4 a5 a6 a7 a8 a9 a10 a11 a12 a13 a14 a15 b (upd a17 0 (nI dc)) a18 a19 a20) (fun i b => ∀ j, j < i → b j = a1 j) dc 0 a16 (by omega) (fun j hj => absurd hj (by omega)) ?_ ?_)
  · intro k b hb
    exact pk_le dc dc (fun _ => H b hb) (fun z => absurd z (by omega))
  · intro k i b hi hb hw
    refine pk_le dc i (fun z => absurd z (by omega)) (fun _ => ⟨pk_in i 8 (by omega), pk_in i 8 (by omega), ?_⟩)
    rw [nI_clamp (by omega)]
    refine nm_e (nm_r (nI_1 i) (hw _ ?_))
    intro j hj
    by_cases e : j = i
    · rw [e, pk_us]
    · rw [pk_un e]
      exact hb j (by omega)
theorem la_back {post : St1 → Prop} {f0 f1 f2 f3 f4 f5 : Int32} {f6 : Int64} {f7 : Int32} {a1 a2 a3 a4 a5 a6 a7 a8 : Nat → Int32} {a9 : Nat → Int64} {a10 : Nat → Int32} {a11 : Nat → Int64} {a12 a13 a14 a15 a16 a17 a18 a19 a20 : Nat → Int32} {dc : Nat} (hdc : dc ≤ 8) (h17 : a17 0 = nI dc) (H : ∀ b1, (∀ i, i < dc → b1 i = a16 i) → post (nI dc, f1, f2, f3, f4, f5, f6, f7, b1, a2, a3, a4, a5, a6, a7, a8, a9, a10, a11, a12, a13, a14, a15, a16, a17, a18, a19, a20)) : wpX_bringDraft post (f0, f1, f2, f3, f4, f5, f6, f7, a1, a2, a3, a4, a5, a6, a7, a8, a9, a10, a11, a12, a13, a14, a15, a16, a17, a18, a19, a20) := by
  unfold wpX_bringDraft
  refine nm_r h17 (pk_loop (fun k i b => wX_bringDraft_12 post (nI dc) f1 f2 f3 f4 f5 f6 f7 k (nI i) b a2 a3 a4 a5 a6 a7 a8 a9 a10 a11 a12 a13 a14 a15 a16 a17 a18 a19 a20) (fun i b => ∀ j, j < i → b j = a16 j) dc 0 a1 (by omega) (fun j hj => absurd hj (by omega)) ?_ ?_)
  · intro k b hb
    exact pk_le dc dc (fun _ => H b hb) (fun z => absurd z (by omega))
  · intro k i b hi hb hw
    refine pk_le dc i (fun z => absurd z (by omega)) (fun _ => ⟨pk_in i 8 (by omega), pk_in i 8 (by omega), ?_⟩)
    rw [nI_clamp (by omega)]
    refine nm_e (nm_r (nI_1 i) (hw _ ?_))
    intro j hj
    by_cases e : j = i
    · rw [e, pk_us]
    · rw [pk_un e]
      exact hb j (by omega)
theorem la_oexpire (G : la_G) (hG : la_WG G) (p : Nat → Prop) : ∃ (r : Int32) (G' : la_G), la_WG G' ∧ ∀ (post : Int32 → St1 → Prop) (fl : Bool) (ad la : Nat) (u : St1) (t : Int32), ad ≤ 63 → la_RG fl ad la G u → (∀ m, m < G.2.2.2.2.2.2.1 → (t ≤ nI (G.2.2.2.2.2.2.2.1 m + la) ↔ ¬ p m)) → (∀ u', la_RG fl ad la G' u' → post r u') → wpX_expire post u t := by
  obtain ⟨dc, dr, pc, pt, fi, ft, L, tm, sh, N, S, sl, si, sL, wl, T⟩ := G
  have hG' := hG
  obtain ⟨g, hgL, hcb⟩ := la_qcb hG p
  obtain ⟨g1, g2, g3, g4⟩ := hG
  have g4' := g4
  obtain ⟨x1, x2, x3, x4, x5⟩ := g4
  have x1' := x1
  obtain ⟨w1, w2, w3, w4, w5, w6⟩ := x1
  by_cases c : g = 0
  · refine ⟨0, (dc, dr, pc, pt, fi, ft, L, tm, sh, N, S, sl, si, sL, wl, T), hG', ?_⟩
    intro post fl ad la u t ha hR hp h
    have y := h _ hR
    have z := fun (P : Int32 → Prop) hP => hcb P fl ad la u t hR hp hP
    obtain ⟨f0, f1, f2, f3, f4, f5, f6, f7, a1, a2, a3, a4, a5, a6, a7, a8, a9, a10, a11, a12, a13, a14, a15, a16, a17, a18, a19, a20⟩ := u
    unfold wpX_expire
    refine z _ (br_t ?_ y)
    rw [c]
    rfl
  · obtain ⟨X0, e1, e2, e3⟩ := la_empty (L, tm, sh, N, S, sl, si, sL, wl, T)
    obtain ⟨X1, f1', f2', f3'⟩ := la_again L S tm sh sl si N x1' x4 g (L - g) (by omega) X0 e1 e2 (L - g) (Nat.le_refl _)
    refine ⟨nI g, (dc, dr, pc, pt, 0, ft, X1), ⟨g1, g2, g3, f1'⟩, ?_⟩
    intro post fl ad la u t ha hR hp h
    have z := fun (P : Int32 → Prop) hP => hcb P fl ad la u t hR hp hP
    obtain ⟨f0, f1, f2, f3, f4, f5, f6, f7, a1, a2, a3, a4, a5, a6, a7, a8, a9, a10, a11, a12, a13, a14, a15, a16, a17, a18, a19, a20⟩ := u
    obtain ⟨h0, hD, h1, hP, h5, h6, h2, h3, hL, hS, hT, h11, h3'⟩ := hR
    unfold wpX_expire
    refine z _ (pk_eq g 0 (fun y => absurd y c) (fun _ => ?_))
    rw [h2, pk_sub hgL]
    refine nm_e ?_
    refine pk_loop (σ := Int32 × (Nat → Int32) × (Nat → Int32) × (Nat → Int32) × (Nat → Int32) × (Nat → Int32)) (fun n k s => wX_expire_22 post (nI g) (nI (L - g)) n (nI k) f0 f1 (nI L) f3 f4 f5 f6 s.1 a1 a2 a3 a4 a5 a6 a7 a8 a9 a10 a11 a12 a13 a14 a15 s.2.1 s.2.2.1 s.2.2.2.1 s.2.2.2.2.1 s.2.2.2.2.2) (fun k s => la_RR fl ad la g k tm sh sl si N s.2.2.2.1 s.2.2.2.2.1 s.2.2.2.2.2) (L - g) 0 (f7, a16, a17, a18, a19, a20) (by omega) (fun k hk => absurd hk (by omega)) ?_ ?_
    · intro n s hr
      refine pk_le (L - g) (L - g) (fun _ => ?_) (fun z => absurd z (by omega))
      refine la_keep g1 h0 (fun b16 hb16 => ?_)
      refine e3 _ fl ad la f0 f1 (nI L) f3 f4 f5 f6 s.1 a1 a2 a3 a4 a5 a6 a7 a8 a9 a10 a11 a12 a13 a14 a15 b16 (upd s.2.2.1 0 (nI dc)) s.2.2.2.1 s.2.2.2.2.1 s.2.2.2.2.2 hS.2.2.1 hT.2.2.1 hT.2.2.2.1 hT.2.2.2.2 ?_
      intro g2 g3 g4 b3 b4 b5 b6 b7 b8 b9 b10 b11 b12 b13 b14 b15 hX0
      refine ⟨1 + (L - g), f3' post fl ad la 1 f0 f1 g2 g3 g4 f5 f6 s.1 a1 a2 b3 b4 b5 b6 b7 b8 b9 b10 b11 b12 b13 b14 b15 b16 (upd s.2.2.1 0 (nI dc)) s.2.2.2.1 s.2.2.2.2.1 s.2.2.2.2.2 ha hr hX0 ?_⟩
      intro i0 c1 h2 h3 h4 d3 d4 d5 d6 d7 d8 d9 d10 d11 d12 d13 d14 d15 hX1
      refine pk_le (L - g) (L - g) (fun _ => ?_) (fun z => absurd z (by omega))
      refine la_back g1 pk_us (fun b1 hb1 => ?_)
      refine h _ ⟨rfl, ?_, h1, hP, rfl, h6, hX1⟩
      intro i hi
      rw [hb1 i hi, hb16 i hi]
      exact hD i hi
    · intro n k s hk hr hw
      have hs := w3 (g + k) (by omega)
      have hs8 := w4 _ hs
      refine pk_le (L - g) k (fun z => absurd z (by omega)) (fun _ => ?_)
      rw [nI_add]
      refine la_read x1' hL (by omega) (fun fr b16 b17 hb => ⟨pk_in (g + k) 60 (by omega), ?_⟩)
      rw [nI_clamp (show g + k < 2 ^ 31 by omega), hL.1 _ (show g + k < L by omega), nI_clamp (show sh (g + k) < 2 ^ 31 by omega), hS.1 _ hs, nI_clamp (show k < 2 ^ 31 by omega), h3' _ (show g + k < L by omega)]
      refine ⟨pk_in (sh (g + k)) 60 (by omega), pk_in k 60 (by omega), nm_e ⟨pk_in (g + k) 60 (by omega), pk_in k 60 (by omega), nm_e ?_⟩⟩
      refine pk_loop (fun m i b => wX_expire_76 post (wX_expire_22 post (nI g) (nI (L - g)) n) (nI g) (nI (L - g)) (nI k) f0 f1 (nI L) f3 f4 f5 f6 fr m (nI i) a1 a2 a3 a4 a5 a6 a7 a8 a9 a10 a11 a12 a13 a14 a15 b16 b17 b (upd s.2.2.2.2.1 k (nI (sl (sh (g + k))))) (upd s.2.2.2.2.2 k (nI (tm (g + k) + la))))
        (fun i b => (∀ j, j < i → b (8 * k + j) = nI (la_I fl ad (la_item sh si N (g + k) j))) ∧ ∀ j, j < 8 * k → b j = s.2.2.2.1 j) (sl (sh (g + k))) 0 s.2.2.2.1 (by omega) ⟨fun j hj => absurd hj (by omega), fun j hj => rfl⟩ ?_ ?_
      · intro m b ⟨hb1, hb2⟩
        refine ⟨pk_in k 60 (by omega), ?_⟩
        rw [nI_clamp (by omega), pk_us]
        refine pk_le (sl (sh (g + k))) (sl (sh (g + k))) (fun _ => nm_r (nI_1 k) (hw (fr, b16, b17, b, upd s.2.2.2.2.1 k (nI (sl (sh (g + k)))), upd s.2.2.2.2.2 k (nI (tm (g + k) + la))) ?_)) (fun z => absurd z (by omega))
        intro j hj
        show upd s.2.2.2.2.1 k (nI (sl (sh (g + k)))) j = nI (sl (sh (g + j))) ∧ upd s.2.2.2.2.2 k (nI (tm (g + k) + la)) j = nI (tm (g + j) + la) ∧ ∀ i, i < sl (sh (g + j)) → b (8 * j + i) = nI (la_I fl ad (la_item sh si N (g + j) i))
        by_cases e : j = k
        · subst e
          exact ⟨pk_us, pk_us, hb1⟩
        · obtain ⟨y1, y2, y3⟩ := hr j (by omega)
          have hs' := w4 _ (w3 (g + j) (by omega))
          refine ⟨by rw [pk_un e]; exact y1, by rw [pk_un e]; exact y2, fun i hi => ?_⟩
          rw [hb2 _ (by omega)]
          exact y3 i hi
      · intro m i b hi ⟨hb1, hb2⟩ hw2
        refine ⟨pk_in k 60 (by omega), ?_⟩
        rw [nI_clamp (by omega), pk_us]
        refine pk_le (sl (sh (g + k))) i (fun z => absurd z (by omega)) (fun _ => ⟨pk_in i 8 (by omega), pk_in (8 * k + i) 480 (by omega) (hx := la_ix k i), ?_⟩)
        rw [la_ix, nI_clamp (show 8 * k + i < 2 ^ 31 by omega), nI_clamp (show i < 2 ^ 31 by omega), hb i hi]
        refine nm_e (nm_r (nI_1 i) (hw2 _ ⟨fun j hj => ?_, fun j hj => ?_⟩))
        · by_cases e : j = i
          · rw [e, pk_us]
          · rw [pk_un (by omega)]
            exact hb1 j (by omega)
        · rw [pk_un (by omega)]
          exact hb2 j hj
end
section
/-! ===== the law's comparison ===== -/
theorem la_turn {post : Int32 → Prop} {x add : Nat} (hx : la_it x) (h : post (nI (la_I true add x))) : wpL_turned post () (nI x) (nI add) := by
  have hx' : x ≤ 1910 := by
    unfold la_it at hx
    omega
  unfold wpL_turned
  refine pk_le 24 x (fun z => ?_) (fun z => ?_)
  · rw [la_I_n z] at h
    rw [nI_add]
    exact h
  · rw [la_I_w z] at h
    rw [show (23 : Int32) = nI 23 from rfl, pk_sub (by omega)]
    exact h
theorem la_qcol0 {dc : Nat} {dr : Nat → Nat} {pc : Nat} {pt : Nat → Nat} {fi : Int32} {ft : Int64} {L : Nat} {tm sh : Nat → Nat} {N : Nat → Nat → Nat} {S : Nat} {sl : Nat → Nat} {si : Nat → Nat → Nat} {sL wl : Nat → Int64} {T : la_T} (hG : la_WG (dc, dr, pc, pt, fi, ft, L, tm, sh, N, S, sl, si, sL, wl, T)) {l i : Nat} (hl : l < L) (hi : i < sl (sh l)) (hb : si (sh l) i = 1000) {post : Int32 → St1 → Prop} {fl : Bool} {ad la : Nat} {u : St1} (ha : ad ≤ 63) (hR : la_RG fl ad la (dc, dr, pc, pt, fi, ft, L, tm, sh, N, S, sl, si, sL, wl, T) u)
    (h : ∀ u', la_RG fl ad la (dc, dr, pc, pt, fi, ft, L, tm, sh, N, S, sl, si, sL, wl, T) u' → post (nI (la_mn N sh (sh l) i L - 1 + ad)) u') : wpX_column post u (nI l) (nI i) 0 := by
  refine la_qtotal (w := 0) hG hl hi hb (by omega) ha hR (fun u' hu' => ?_)
  have hp := la_mn_pos (N := N) (sh := sh) (s := sh l) (i := i) (l0 := l) rfl L hl
  rw [if_pos rfl]
  unfold la_v
  rw [if_neg (by omega)]
  exact h u' hu'
theorem la_qcol1 {dc : Nat} {dr : Nat → Nat} {pc : Nat} {pt : Nat → Nat} {fi : Int32} {ft : Int64} {L : Nat} {tm sh : Nat → Nat} {N : Nat → Nat → Nat} {S : Nat} {sl : Nat → Nat} {si : Nat → Nat → Nat} {sL wl : Nat → Int64} {T : la_T} (hG : la_WG (dc, dr, pc, pt, fi, ft, L, tm, sh, N, S, sl, si, sL, wl, T)) {l i : Nat} (hl : l < L) (hi : i < sl (sh l)) (hb : si (sh l) i = 1000) {post : Int32 → St1 → Prop} {fl : Bool} {ad la : Nat} {u : St1} (ha : ad ≤ 63) (hR : la_RG fl ad la (dc, dr, pc, pt, fi, ft, L, tm, sh, N, S, sl, si, sL, wl, T) u)
    (h : ∀ u', la_RG fl ad la (dc, dr, pc, pt, fi, ft, L, tm, sh, N, S, sl, si, sL, wl, T) u' → post (nI (la_mx N sh (sh l) i L - 1 + ad)) u') : wpX_column post u (nI l) (nI i) 1 := by
  refine la_qtotal (w := 1) hG hl hi hb (by omega) ha hR (fun u' hu' => ?_)
  have hp := la_mx_pos (N := N) (sh := sh) (s := sh l) (i := i) (l0 := l) rfl L hl
  rw [if_neg (by omega), if_pos rfl]
  unfold la_v
  rw [if_neg (by omega)]
  exact h u' hu'
theorem la_qcol2 {dc : Nat} {dr : Nat → Nat} {pc : Nat} {pt : Nat → Nat} {fi : Int32} {ft : Int64} {L : Nat} {tm sh : Nat → Nat} {N : Nat → Nat → Nat} {S : Nat} {sl : Nat → Nat} {si : Nat → Nat → Nat} {sL wl : Nat → Int64} {T : la_T} (hG : la_WG (dc, dr, pc, pt, fi, ft, L, tm, sh, N, S, sl, si, sL, wl, T)) {l i : Nat} (hl : l < L) (hi : i < sl (sh l)) (hb : si (sh l) i = 1000) {post : Int32 → St1 → Prop} {fl : Bool} {ad la : Nat} {u : St1} (ha : ad ≤ 63) (hR : la_RG fl ad la (dc, dr, pc, pt, fi, ft, L, tm, sh, N, S, sl, si, sL, wl, T) u)
    (h : ∀ u', la_RG fl ad la (dc, dr, pc, pt, fi, ft, L, tm, sh, N, S, sl, si, sL, wl, T) u' → post (nI (la_sum N sh (sh l) i L + ad * la_ct sh (sh l) L)) u') : wpX_column post u (nI l) (nI i) 2 := by
  refine la_qtotal (w := 2) hG hl hi hb (by omega) ha hR (fun u' hu' => ?_)
  rw [if_neg (by omega), if_neg (by omega)]
  exact h u' hu'
theorem la_same_step {dc : Nat} {dr : Nat → Nat} {pc : Nat} {pt : Nat → Nat} {fi : Int32} {ft : Int64} {L : Nat} {tm sh : Nat → Nat} {N : Nat → Nat → Nat} {S : Nat} {sl : Nat → Nat} {si : Nat → Nat → Nat} {sL wl : Nat → Int64} {T : la_T} (hG : la_WG (dc, dr, pc, pt, fi, ft, L, tm, sh, N, S, sl, si, sL, wl, T)) {add later l n : Nat} (ha : add ≤ 63) (hla : later ≤ 127) (hl : l < L) {post : Int32 → St3 → Prop} {f0 f1 f2 f3 f4 f5 : Int32} {f6 : Int64} {f7 : Int32} {a1 a2 a3 a4 a5 a6 a7 a8 : Nat → Int32} {a9 : Nat → Int64} {a10 : Nat → Int32} {a11 : Nat → Int64} {a12 a13 a14 a15 a16 a17 a18 a19 a20 : Nat → Int32} {g0 g1 g2 g3 g4 g5 : Int32} {g6 : Int64} {g7 : Int32} {b1 b2 b3 b4 b5 b6 b7 b8 : Nat → Int32} {b9 : Nat → Int64} {b10 : Nat → Int32} {b11 : Nat → Int64} {b12 b13 b14 b15 b16 b17 b18 b19 b20 : Nat → Int32} (hc : la_RG false 0 0 (dc, dr, pc, pt, fi, ft, L, tm, sh, N, S, sl, si, sL, wl, T) (f0, f1, f2, f3, f4, f5, f6, f7, a1, a2, a3, a4, a5, a6, a7, a8, a9, a10, a11, a12, a13, a14, a15, a16, a17, a18, a19, a20)) (hd : la_RG true add later (dc, dr, pc, pt, fi, ft, L, tm, sh, N, S, sl, si, sL, wl, T) (g0, g1, g2, g3, g4, g5, g6, g7, b1, b2, b3, b4, b5, b6, b7, b8, b9, b10, b11, b12, b13, b14, b15, b16, b17, b18, b19, b20))
    (K : ∀ (c0 c1 c2 c3 c4 c5 : Int32) (c6 : Int64) (c7 : Int32) (m1 m2 m3 m4 m5 m6 m7 m8 : Nat → Int32) (m9 : Nat → Int64) (m10 : Nat → Int32) (m11 : Nat → Int64) (m12 m13 m14 m15 m16 m17 m18 m19 m20 : Nat → Int32) (d0 d1 d2 d3 d4 d5 : Int32) (d6 : Int64) (d7 : Int32) (o1 o2 o3 o4 o5 o6 o7 o8 : Nat → Int32) (o9 : Nat → Int64) (o10 : Nat → Int32) (o11 : Nat → Int64) (o12 o13 o14 o15 o16 o17 o18 o19 o20 : Nat → Int32), la_RG false 0 0 (dc, dr, pc, pt, fi, ft, L, tm, sh, N, S, sl, si, sL, wl, T) (c0, c1, c2, c3, c4, c5, c6, c7, m1, m2, m3, m4, m5, m6, m7, m8, m9, m10, m11, m12, m13, m14, m15, m16, m17, m18, m19, m20) → la_RG true add later (dc, dr, pc, pt, fi, ft, L, tm, sh, N, S, sl, si, sL, wl, T) (d0, d1, d2, d3, d4, d5, d6, d7, o1, o2, o3, o4, o5, o6, o7, o8, o9, o10, o11, o12, o13, o14, o15, o16, o17, o18, o19, o20) → wL_same_154 post (nI add) (nI later) n (nI (l + 1)) c0 c1 c2 c3 c4 c5 c6 c7 m1 m2 m3 m4 m5 m6 m7 m8 m9 m10 m11 m12 m13 m14 m15 m16 m17 m18 m19 m20 d0 d1 d2 d3 d4 d5 d6 d7 o1 o2 o3 o4 o5 o6 o7 o8 o9 o10 o11 o12 o13 o14 o15 o16 o17 o18 o19 o20) : wL_same_154 post (nI add) (nI later) (n + 1) (nI l) f0 f1 f2 f3 f4 f5 f6 f7 a1 a2 a3 a4 a5 a6 a7 a8 a9 a10 a11 a12 a13 a14 a15 a16 a17 a18 a19 a20 g0 g1 g2 g3 g4 g5 g6 g7 b1 b2 b3 b4 b5 b6 b7 b8 b9 b10 b11 b12 b13 b14 b15 b16 b17 b18 b19 b20 := by
  obtain ⟨rg, hg⟩ := la_qgroup hG l hl
  obtain ⟨rl, hlg⟩ := la_qlargest hG (nI l)
  have hW := hG.2.2.2.1
  obtain ⟨w1, w2, w3, w4, w5, w6⟩ := hW
  have hs := w3 l hl
  have hs8 := w4 _ hs
  have hi : l % sl (sh l) < sl (sh l) := Nat.mod_lt _ (by omega)
  have hx : la_it (la_item sh si N l (l % sl (sh l))) := la_item_ok hG.2.2.2.1 hl hi
  obtain ⟨rh, hh⟩ := la_qhaving hG _ hx
  have hh0 := fun post u hR h => hh post false 0 0 u (by omega) hR h
  have hh1 := fun post u hR h => hh post true add later u ha hR h
  rw [la_I_0] at hh0
  unfold wL_same_154
  refine la_qlines hc (pk_le L l (fun z => absurd z (by omega)) (fun _ => ?_))
  refine hg _ false 0 0 _ hc (hg _ true add later _ hd (br_t rfl ?_))
  refine la_qmembers hG hl hc (la_qmembers hG hl hd (br_t rfl ?_))
  refine hlg _ false 0 0 _ hc (hlg _ true add later _ hd (br_t rfl ?_))
  refine la_qtime hG hl hc (la_qtime hG hl hd (br_t (nI_add _ _) ?_))
  refine la_qlength hG hl hc (la_qlength hG hl hd (br_t rfl ?_))
  refine la_qlength hG hl hc ⟨nI_ne0 (by omega) (by omega), nm_r (pk_rem (by omega) (by omega) (by omega)) ?_⟩
  refine la_qat hG hl hi hc (fun u1 hc1 => ?_)
  obtain ⟨c0, c1, c2, c3, c4, c5, c6, c7, m1, m2, m3, m4, m5, m6, m7, m8, m9, m10, m11, m12, m13, m14, m15, m16, m17, m18, m19, m20⟩ := u1
  rw [la_I_0]
  refine la_turn hx ?_
  refine la_qat hG hl hi hd (fun u2 hd1 => ?_)
  obtain ⟨d0, d1, d2, d3, d4, d5, d6, d7, o1, o2, o3, o4, o5, o6, o7, o8, o9, o10, o11, o12, o13, o14, o15, o16, o17, o18, o19, o20⟩ := u2
  refine br_t rfl ?_
  refine hh0 _ _ hc1 (fun u3 hc2 => ?_)
  obtain ⟨e0, e1, e2, e3, e4, e5, e6, e7, q1, q2, q3, q4, q5, q6, q7, q8, q9, q10, q11, q12, q13, q14, q15, q16, q17, q18, q19, q20⟩ := u3
  refine hh1 _ _ hd1 (fun u4 hd2 => ?_)
  obtain ⟨i0, i1, i2, i3, i4, i5, i6, i7, r1, r2, r3, r4, r5, r6, r7, r8, r9, r10, r11, r12, r13, r14, r15, r16, r17, r18, r19, r20⟩ := u4
  refine br_t rfl ?_
  have hx1910 : la_item sh si N l (l % sl (sh l)) ≤ 1910 := by
    unfold la_it at hx
    omega
  refine pk_lt (la_item sh si N l (l % sl (sh l))) 1000 (fun z => nm_r (nI_1 l) (K e0 e1 e2 e3 e4 e5 e6 e7 q1 q2 q3 q4 q5 q6 q7 q8 q9 q10 q11 q12 q13 q14 q15 q16 q17 q18 q19 q20 i0 i1 i2 i3 i4 i5 i6 i7 r1 r2 r3 r4 r5 r6 r7 r8 r9 r10 r11 r12 r13 r14 r15 r16 r17 r18 r19 r20 hc2 hd2)) (fun z => ?_)
  have hb : si (sh l) (l % sl (sh l)) = 1000 := by
    by_cases e : si (sh l) (l % sl (sh l)) = 1000
    · exact e
    · have ok := w5 _ _ hs hi
      unfold la_item at z
      rw [if_neg e] at z
      unfold la_si at ok
      omega
  obtain ⟨rd, hdf⟩ := la_qdiff hG hl hi hb
  refine la_qcol0 hG hl hi hb (by omega) hc2 (fun u5 hc3 => ?_)
  obtain ⟨k0, k1, k2, k3, k4, k5, k6, k7, s1, s2, s3, s4, s5, s6, s7, s8, s9, s10, s11, s12, s13, s14, s15, s16, s17, s18, s19, s20⟩ := u5
  refine la_qcol0 hG hl hi hb ha hd2 (fun u6 hd3 => ?_)
  obtain ⟨v0, v1, v2, v3, v4, v5, v6, v7, t1, t2, t3, t4, t5, t6, t7, t8, t9, t10, t11, t12, t13, t14, t15, t16, t17, t18, t19, t20⟩ := u6
  refine br_t (nI_add _ _) ?_
  refine la_qcol1 hG hl hi hb (by omega) hc3 (fun u5 hc4 => ?_)
  obtain ⟨y0, y1, y2, y3, y4, y5, y6, y7, A1, A2, A3, A4, A5, A6, A7, A8, A9, A10, A11, A12, A13, A14, A15, A16, A17, A18, A19, A20⟩ := u5
  refine la_qcol1 hG hl hi hb ha hd3 (fun u6 hd4 => ?_)
  obtain ⟨z0, z1, z2, z3, z4, z5, z6, z7, B1, B2, B3, B4, B5, B6, B7, B8, B9, B10, B11, B12, B13, B14, B15, B16, B17, B18, B19, B20⟩ := u6
  refine br_t (nI_add _ _) ?_
  refine la_qcol2 hG hl hi hb (by omega) hc4 (fun u5 hc5 => ?_)
  obtain ⟨C0, C1, C2, C3, C4, C5, C6, C7, D1, D2, D3, D4, D5, D6, D7, D8, D9, D10, D11, D12, D13, D14, D15, D16, D17, D18, D19, D20⟩ := u5
  refine la_qmembers hG hl hc5 ?_
  refine la_qcol2 hG hl hi hb ha hd4 (fun u6 hd5 => ?_)
  obtain ⟨E0, E1, E2, E3, E4, E5, E6, E7, F1, F2, F3, F4, F5, F6, F7, F8, F9, F10, F11, F12, F13, F14, F15, F16, F17, F18, F19, F20⟩ := u6
  refine br_t (by rw [pk_mul, nI_add, Nat.zero_mul]; rfl) ?_
  refine hdf _ false 0 0 _ (by omega) hc5 (fun u5 hc6 => ?_)
  obtain ⟨I0, I1, I2, I3, I4, I5, I6, I7, J1, J2, J3, J4, J5, J6, J7, J8, J9, J10, J11, J12, J13, J14, J15, J16, J17, J18, J19, J20⟩ := u5
  refine hdf _ true add later _ ha hd5 (fun u6 hd6 => ?_)
  obtain ⟨M0, M1, M2, M3, M4, M5, M6, M7, N1, N2, N3, N4, N5, N6, N7, N8, N9, N10, N11, N12, N13, N14, N15, N16, N17, N18, N19, N20⟩ := u6
  exact br_t rfl (nm_r (nI_1 l) (K I0 I1 I2 I3 I4 I5 I6 I7 J1 J2 J3 J4 J5 J6 J7 J8 J9 J10 J11 J12 J13 J14 J15 J16 J17 J18 J19 J20 M0 M1 M2 M3 M4 M5 M6 M7 N1 N2 N3 N4 N5 N6 N7 N8 N9 N10 N11 N12 N13 N14 N15 N16 N17 N18 N19 N20 hc6 hd6))
theorem la_same (G : la_G) (hG : la_WG G) {add later : Nat} (ha : add ≤ 63) (hla : later ≤ 127) (x : Int32) {post : Int32 → St3 → Prop} {f0 f1 f2 f3 f4 f5 : Int32} {f6 : Int64} {f7 : Int32} {a1 a2 a3 a4 a5 a6 a7 a8 : Nat → Int32} {a9 : Nat → Int64} {a10 : Nat → Int32} {a11 : Nat → Int64} {a12 a13 a14 a15 a16 a17 a18 a19 a20 : Nat → Int32} {g0 g1 g2 g3 g4 g5 : Int32} {g6 : Int64} {g7 : Int32} {b1 b2 b3 b4 b5 b6 b7 b8 : Nat → Int32} {b9 : Nat → Int64} {b10 : Nat → Int32} {b11 : Nat → Int64} {b12 b13 b14 b15 b16 b17 b18 b19 b20 : Nat → Int32} (hc : la_RG false 0 0 G (f0, f1, f2, f3, f4, f5, f6, f7, a1, a2, a3, a4, a5, a6, a7, a8, a9, a10, a11, a12, a13, a14, a15, a16, a17, a18, a19, a20)) (hd : la_RG true add later G (g0, g1, g2, g3, g4, g5, g6, g7, b1, b2, b3, b4, b5, b6, b7, b8, b9, b10, b11, b12, b13, b14, b15, b16, b17, b18, b19, b20))
    (K : ∀ (G' : la_G) (c0 c1 c2 c3 c4 c5 : Int32) (c6 : Int64) (c7 : Int32) (m1 m2 m3 m4 m5 m6 m7 m8 : Nat → Int32) (m9 : Nat → Int64) (m10 : Nat → Int32) (m11 : Nat → Int64) (m12 m13 m14 m15 m16 m17 m18 m19 m20 : Nat → Int32) (d0 d1 d2 d3 d4 d5 : Int32) (d6 : Int64) (d7 : Int32) (o1 o2 o3 o4 o5 o6 o7 o8 : Nat → Int32) (o9 : Nat → Int64) (o10 : Nat → Int32) (o11 : Nat → Int64) (o12 o13 o14 o15 o16 o17 o18 o19 o20 : Nat → Int32), la_WG G' → la_RG false 0 0 G' (c0, c1, c2, c3, c4, c5, c6, c7, m1, m2, m3, m4, m5, m6, m7, m8, m9, m10, m11, m12, m13, m14, m15, m16, m17, m18, m19, m20) → la_RG true add later G' (d0, d1, d2, d3, d4, d5, d6, d7, o1, o2, o3, o4, o5, o6, o7, o8, o9, o10, o11, o12, o13, o14, o15, o16, o17, o18, o19, o20) → post 1 (c0, c1, c2, c3, c4, c5, c6, c7, m1, m2, m3, m4, m5, m6, m7, m8, m9, m10, m11, m12, m13, m14, m15, m16, m17, m18, m19, m20, d0, d1, d2, d3, d4, d5, d6, d7, o1, o2, o3, o4, o5, o6, o7, o8, o9, o10, o11, o12, o13, o14, o15, o16, o17, o18, o19, o20)) : wpL_same post (f0, f1, f2, f3, f4, f5, f6, f7, a1, a2, a3, a4, a5, a6, a7, a8, a9, a10, a11, a12, a13, a14, a15, a16, a17, a18, a19, a20, g0, g1, g2, g3, g4, g5, g6, g7, b1, b2, b3, b4, b5, b6, b7, b8, b9, b10, b11, b12, b13, b14, b15, b16, b17, b18, b19, b20) (nI add) (nI later) x := by
  obtain ⟨dc, dr, pc, pt, fi, ft, L, tm, sh, N, S, sl, si, sL, wl, T⟩ := G
  obtain ⟨rf, fi1, ft1, hfg⟩ := la_qfg hG
  have hG1 : la_WG (dc, dr, pc, pt, fi1, ft1, L, tm, sh, N, S, sl, si, sL, wl, T) := hG
  obtain ⟨rb, hbu⟩ := la_qburst hG1 (1 + (x &&& 15))
  obtain ⟨a, ha64, ea⟩ := pk_andE (x >>> ((4 : Int32) &&& 31)) (m := 63) 6 (by decide)
  obtain ⟨b, hb32, eb⟩ := pk_andE (x >>> ((10 : Int32) &&& 31)) (m := 31) 5 (by decide)
  obtain ⟨k, hk16, ek⟩ := pk_andE x (m := 15) 4 (by decide)
  obtain ⟨rt, fi2, ft2, hft⟩ := la_qfitting hG1 a (a + b) (by omega) (by omega)
  have hG2 : la_WG (dc, dr, pc, pt, fi2, ft2, L, tm, sh, N, S, sl, si, sL, wl, T) := hG
  obtain ⟨rbw, hbw⟩ := la_qbetween hG2 a (a + b) (by omega) (by omega)
  obtain ⟨rn, fi3, ft3, hnx⟩ := la_qnext hG2 k (by omega)
  have hG3 : la_WG (dc, dr, pc, pt, fi3, ft3, L, tm, sh, N, S, sl, si, sL, wl, T) := hG
  unfold wpL_same
  refine la_qlines hc (la_qlines hd (br_t rfl ?_))
  refine la_qgroups hc (la_qgroups hd (br_t rfl ?_))
  refine hfg _ false 0 0 _ (by omega) hc (fun u1 hc1 => ?_)
  obtain ⟨c0, c1, c2, c3, c4, c5, c6, c7, m1, m2, m3, m4, m5, m6, m7, m8, m9, m10, m11, m12, m13, m14, m15, m16, m17, m18, m19, m20⟩ := u1
  refine hfg _ true add later _ ha hd (fun u2 hd1 => ?_)
  obtain ⟨d0, d1, d2, d3, d4, d5, d6, d7, o1, o2, o3, o4, o5, o6, o7, o8, o9, o10, o11, o12, o13, o14, o15, o16, o17, o18, o19, o20⟩ := u2
  refine br_t rfl ?_
  refine hbu _ false 0 0 _ hc1 (hbu _ true add later _ hd1 (br_t rfl ?_))
  refine nm_r ea (nm_r (by rw [eb, nI_add]) ?_)
  rw [nI_add a later, nI_add (a + b) later, ek]
  refine hft _ false 0 0 _ (by omega) (by omega) hc1 (fun u3 hc2 => ?_)
  obtain ⟨e0, e1, e2, e3, e4, e5, e6, e7, q1, q2, q3, q4, q5, q6, q7, q8, q9, q10, q11, q12, q13, q14, q15, q16, q17, q18, q19, q20⟩ := u3
  refine hft _ true add later _ ha hla hd1 (fun u4 hd2 => ?_)
  obtain ⟨i0, i1, i2, i3, i4, i5, i6, i7, r1, r2, r3, r4, r5, r6, r7, r8, r9, r10, r11, r12, r13, r14, r15, r16, r17, r18, r19, r20⟩ := u4
  refine br_t rfl ?_
  refine hbw _ false 0 0 _ (by omega) hc2 (hbw _ true add later _ hla hd2 (br_t rfl ?_))
  refine hnx _ false 0 0 _ (by omega) hc2 (fun u5 hc3 => ?_)
  obtain ⟨k0, k1, k2, k3, k4, k5, k6, k7, s1, s2, s3, s4, s5, s6, s7, s8, s9, s10, s11, s12, s13, s14, s15, s16, s17, s18, s19, s20⟩ := u5
  refine hnx _ true add later _ ha hd2 (fun u6 hd3 => ?_)
  obtain ⟨v0, v1, v2, v3, v4, v5, v6, v7, t1, t2, t3, t4, t5, t6, t7, t8, t9, t10, t11, t12, t13, t14, t15, t16, t17, t18, t19, t20⟩ := u6
  refine br_t rfl ?_
  refine pk_loop (σ := St1 × St1) (fun n l z => wL_same_154 post (nI add) (nI later) n (nI l) z.1.1 z.1.2.1 z.1.2.2.1 z.1.2.2.2.1 z.1.2.2.2.2.1 z.1.2.2.2.2.2.1 z.1.2.2.2.2.2.2.1 z.1.2.2.2.2.2.2.2.1 z.1.2.2.2.2.2.2.2.2.1 z.1.2.2.2.2.2.2.2.2.2.1 z.1.2.2.2.2.2.2.2.2.2.2.1 z.1.2.2.2.2.2.2.2.2.2.2.2.1 z.1.2.2.2.2.2.2.2.2.2.2.2.2.1 z.1.2.2.2.2.2.2.2.2.2.2.2.2.2.1 z.1.2.2.2.2.2.2.2.2.2.2.2.2.2.2.1 z.1.2.2.2.2.2.2.2.2.2.2.2.2.2.2.2.1 z.1.2.2.2.2.2.2.2.2.2.2.2.2.2.2.2.2.1 z.1.2.2.2.2.2.2.2.2.2.2.2.2.2.2.2.2.2.1 z.1.2.2.2.2.2.2.2.2.2.2.2.2.2.2.2.2.2.2.1 z.1.2.2.2.2.2.2.2.2.2.2.2.2.2.2.2.2.2.2.2.1 z.1.2.2.2.2.2.2.2.2.2.2.2.2.2.2.2.2.2.2.2.2.1 z.1.2.2.2.2.2.2.2.2.2.2.2.2.2.2.2.2.2.2.2.2.2.1 z.1.2.2.2.2.2.2.2.2.2.2.2.2.2.2.2.2.2.2.2.2.2.2.1 z.1.2.2.2.2.2.2.2.2.2.2.2.2.2.2.2.2.2.2.2.2.2.2.2.1 z.1.2.2.2.2.2.2.2.2.2.2.2.2.2.2.2.2.2.2.2.2.2.2.2.2.1 z.1.2.2.2.2.2.2.2.2.2.2.2.2.2.2.2.2.2.2.2.2.2.2.2.2.2.1 z.1.2.2.2.2.2.2.2.2.2.2.2.2.2.2.2.2.2.2.2.2.2.2.2.2.2.2.1 z.1.2.2.2.2.2.2.2.2.2.2.2.2.2.2.2.2.2.2.2.2.2.2.2.2.2.2.2 z.2.1 z.2.2.1 z.2.2.2.1 z.2.2.2.2.1 z.2.2.2.2.2.1 z.2.2.2.2.2.2.1 z.2.2.2.2.2.2.2.1 z.2.2.2.2.2.2.2.2.1 z.2.2.2.2.2.2.2.2.2.1 z.2.2.2.2.2.2.2.2.2.2.1 z.2.2.2.2.2.2.2.2.2.2.2.1 z.2.2.2.2.2.2.2.2.2.2.2.2.1 z.2.2.2.2.2.2.2.2.2.2.2.2.2.1 z.2.2.2.2.2.2.2.2.2.2.2.2.2.2.1 z.2.2.2.2.2.2.2.2.2.2.2.2.2.2.2.1 z.2.2.2.2.2.2.2.2.2.2.2.2.2.2.2.2.1 z.2.2.2.2.2.2.2.2.2.2.2.2.2.2.2.2.2.1 z.2.2.2.2.2.2.2.2.2.2.2.2.2.2.2.2.2.2.1 z.2.2.2.2.2.2.2.2.2.2.2.2.2.2.2.2.2.2.2.1 z.2.2.2.2.2.2.2.2.2.2.2.2.2.2.2.2.2.2.2.2.1 z.2.2.2.2.2.2.2.2.2.2.2.2.2.2.2.2.2.2.2.2.2.1 z.2.2.2.2.2.2.2.2.2.2.2.2.2.2.2.2.2.2.2.2.2.2.1 z.2.2.2.2.2.2.2.2.2.2.2.2.2.2.2.2.2.2.2.2.2.2.2.1 z.2.2.2.2.2.2.2.2.2.2.2.2.2.2.2.2.2.2.2.2.2.2.2.2.1 z.2.2.2.2.2.2.2.2.2.2.2.2.2.2.2.2.2.2.2.2.2.2.2.2.2.1 z.2.2.2.2.2.2.2.2.2.2.2.2.2.2.2.2.2.2.2.2.2.2.2.2.2.2.1 z.2.2.2.2.2.2.2.2.2.2.2.2.2.2.2.2.2.2.2.2.2.2.2.2.2.2.2.1 z.2.2.2.2.2.2.2.2.2.2.2.2.2.2.2.2.2.2.2.2.2.2.2.2.2.2.2.2) (fun l z => la_RG false 0 0 (dc, dr, pc, pt, fi3, ft3, L, tm, sh, N, S, sl, si, sL, wl, T) z.1 ∧ la_RG true add later (dc, dr, pc, pt, fi3, ft3, L, tm, sh, N, S, sl, si, sL, wl, T) z.2) L 0 ((k0, k1, k2, k3, k4, k5, k6, k7, s1, s2, s3, s4, s5, s6, s7, s8, s9, s10, s11, s12, s13, s14, s15, s16, s17, s18, s19, s20), (v0, v1, v2, v3, v4, v5, v6, v7, t1, t2, t3, t4, t5, t6, t7, t8, t9, t10, t11, t12, t13, t14, t15, t16, t17, t18, t19, t20)) (by omega) ⟨hc3, hd3⟩ ?_ ?_
  · intro n z ⟨hz1, hz2⟩
    obtain ⟨⟨y0, y1, y2, y3, y4, y5, y6, y7, A1, A2, A3, A4, A5, A6, A7, A8, A9, A10, A11, A12, A13, A14, A15, A16, A17, A18, A19, A20⟩, ⟨z0, z1, z2, z3, z4, z5, z6, z7, B1, B2, B3, B4, B5, B6, B7, B8, B9, B10, B11, B12, B13, B14, B15, B16, B17, B18, B19, B20⟩⟩ := z
    have hL := hG.2.2.2.1.1
    show wL_same_154 post (nI add) (nI later) (n + 1) (nI L) y0 y1 y2 y3 y4 y5 y6 y7 A1 A2 A3 A4 A5 A6 A7 A8 A9 A10 A11 A12 A13 A14 A15 A16 A17 A18 A19 A20 z0 z1 z2 z3 z4 z5 z6 z7 B1 B2 B3 B4 B5 B6 B7 B8 B9 B10 B11 B12 B13 B14 B15 B16 B17 B18 B19 B20
    unfold wL_same_154
    exact la_qlines hz1 (pk_le L L (fun _ => K _ y0 y1 y2 y3 y4 y5 y6 y7 A1 A2 A3 A4 A5 A6 A7 A8 A9 A10 A11 A12 A13 A14 A15 A16 A17 A18 A19 A20 z0 z1 z2 z3 z4 z5 z6 z7 B1 B2 B3 B4 B5 B6 B7 B8 B9 B10 B11 B12 B13 B14 B15 B16 B17 B18 B19 B20 hG3 hz1 hz2) (fun z => absurd z (by omega)))
  · intro n l z hl ⟨hz1, hz2⟩ hw
    obtain ⟨⟨y0, y1, y2, y3, y4, y5, y6, y7, A1, A2, A3, A4, A5, A6, A7, A8, A9, A10, A11, A12, A13, A14, A15, A16, A17, A18, A19, A20⟩, ⟨z0, z1, z2, z3, z4, z5, z6, z7, B1, B2, B3, B4, B5, B6, B7, B8, B9, B10, B11, B12, B13, B14, B15, B16, B17, B18, B19, B20⟩⟩ := z
    exact la_same_step hG3 ha hla hl hz1 hz2 (fun C0 C1 C2 C3 C4 C5 C6 C7 D1 D2 D3 D4 D5 D6 D7 D8 D9 D10 D11 D12 D13 D14 D15 D16 D17 D18 D19 D20 E0 E1 E2 E3 E4 E5 E6 E7 F1 F2 F3 F4 F5 F6 F7 F8 F9 F10 F11 F12 F13 F14 F15 F16 F17 F18 F19 F20 q1 q2 => hw ((C0, C1, C2, C3, C4, C5, C6, C7, D1, D2, D3, D4, D5, D6, D7, D8, D9, D10, D11, D12, D13, D14, D15, D16, D17, D18, D19, D20), (E0, E1, E2, E3, E4, E5, E6, E7, F1, F2, F3, F4, F5, F6, F7, F8, F9, F10, F11, F12, F13, F14, F15, F16, F17, F18, F19, F20)) ⟨q1, q2⟩)
end
section
/-! ===== the law ===== -/
theorem la_lItem (x : Int32) : ∃ i, la_it i ∧ ∀ post : Int32 → Prop, post (nI i) → wpL_itemOf post () x := by
  obtain ⟨k, hk, ek⟩ := pk_andE x (m := 15) 4 (by decide)
  obtain ⟨m, hm, em⟩ := pk_andE (x >>> ((4 : Int32) &&& 31)) (m := 7) 3 (by decide)
  have hk' : k < 16 := hk
  have hm' : m < 8 := hm
  by_cases c : 9 ≤ k
  · by_cases c2 : k = 15
    · refine ⟨1000 + m * 130, Or.inr (by omega), fun post h => ?_⟩
      refine nm_r ek (pk_le 9 k (fun _ => pk_eq k 15 (fun _ => ?_) (fun z => absurd c2 z)) (fun z => absurd z (by omega)))
      rw [em, show (130 : Int32) = nI 130 from rfl, pk_mul, show (1000 : Int32) = nI 1000 from rfl, nI_add]
      exact h
    · refine ⟨1000 + m * 1, Or.inr (by omega), fun post h => ?_⟩
      refine nm_r ek (pk_le 9 k (fun _ => pk_eq k 15 (fun z => absurd z c2) (fun _ => ?_)) (fun z => absurd z (by omega)))
      rw [em, show (1 : Int32) = nI 1 from rfl, pk_mul, show (1000 : Int32) = nI 1000 from rfl, nI_add]
      exact h
  · refine ⟨k % 4, Or.inl (by omega), fun post h => ?_⟩
    refine nm_r ek (pk_le 9 k (fun z => absurd z c) (fun _ => ⟨by decide, ?_⟩))
    have e := pk_rem (a := k) (d := 4) (by omega) (by omega) (by omega)
    have e' : nI k - nI k / 4 * 4 = nI (k % 4) := e
    rw [e']
    exact h
theorem la_lPart (x : Int32) : ∃ p, la_pa p ∧ ∀ post : Int32 → Prop, post (nI p) → wpL_partOf post () x := by
  obtain ⟨k, hk, ek⟩ := pk_andE (x >>> ((8 : Int32) &&& 31)) (m := 15) 4 (by decide)
  obtain ⟨m, hm, em⟩ := pk_andE x (m := 7) 3 (by decide)
  obtain ⟨i, hi, hI⟩ := la_lItem x
  have hk' : k < 16 := hk
  have hm' : m < 8 := hm
  by_cases c6 : 6 ≤ k
  · by_cases c8 : 8 ≤ k
    · by_cases c9 : k = 8
      · exact ⟨2001, Or.inr (Or.inl (by omega)), fun post h => nm_r ek (pk_le 6 k (fun _ => pk_le 8 k (fun _ => pk_eq k 8 (fun _ => h) (fun z => absurd c9 z)) (fun z => absurd z (by omega))) (fun z => absurd z (by omega)))⟩
      · by_cases c13 : 13 ≤ k
        · refine ⟨3000 + m, Or.inr (Or.inr (by omega)), fun post h => nm_r ek (pk_le 6 k (fun _ => pk_le 8 k (fun _ => pk_eq k 8 (fun z => absurd z c9) (fun _ => pk_le 13 k (fun _ => ?_) (fun z => absurd z (by omega)))) (fun z => absurd z (by omega))) (fun z => absurd z (by omega)))⟩
          rw [em, show (3000 : Int32) = nI 3000 from rfl, nI_add]
          exact h
        · exact ⟨2002, Or.inr (Or.inl (by omega)), fun post h => nm_r ek (pk_le 6 k (fun _ => pk_le 8 k (fun _ => pk_eq k 8 (fun z => absurd z c9) (fun _ => pk_le 13 k (fun z => absurd z c13) (fun _ => h))) (fun z => absurd z (by omega))) (fun z => absurd z (by omega)))⟩
    · exact ⟨2000, Or.inr (Or.inl (by omega)), fun post h => nm_r ek (pk_le 6 k (fun _ => pk_le 8 k (fun z => absurd z c8) (fun _ => h)) (fun z => absurd z (by omega)))⟩
  · exact ⟨i, Or.inl hi, fun post h => nm_r ek (pk_le 6 k (fun z => absurd z c6) (fun _ => hI _ h))⟩
theorem la_pturn {post : Int32 → Prop} {p add : Nat} (hp : la_pa p) (h : post (nI (la_P true add p))) : wpL_part post () (nI p) (nI add) := by
  have hp' : p ≤ 3007 := by
    unfold la_pa la_it at hp
    omega
  unfold wpL_part
  refine pk_le 2000 p (fun z => pk_le 3000 p (fun z2 => ?_) (fun z2 => ?_)) (fun z => ?_)
  · rw [la_P_hi z2] at h
    rw [nI_add]
    exact h
  · rw [la_P_mid z z2] at h
    exact h
  · rw [la_P_lo z] at h
    refine la_turn ?_ h
    rcases hp with q | q | q
    · exact q
    · omega
    · omega
theorem la_cell (L : Nat) (hL : L ≤ 260) (xs : Nat → Int32) : ∃ r : Int32, ∀ post : Int32 → Prop, post r → wpL_cell post L xs () 0 := by
  by_cases c : L = 0
  · refine ⟨(41 * 0) + 9, fun post h => ?_⟩
    exact pk_le L 0 (fun _ => h) (fun z => absurd z (by omega))
  · refine ⟨xs 0, fun post h => ?_⟩
    exact pk_le L 0 (fun z => absurd z (by omega)) (fun _ => ⟨pk_in 0 L (by omega), h⟩)
/-- the comparison of times of expire -/
theorem la_exp {tm : Nat → Nat} {L t k la : Nat} (h : ∀ l, l < L → tm l ≤ 800) (ht : t ≤ 800) (hk : k < 16) (hla : la ≤ 127) : ∀ m, m < L → ((nI t - nI k) + nI la ≤ nI (tm m + la) ↔ ¬ tm m + k < t) := by
  intro m hm
  have h1 := h m hm
  rcases Nat.lt_or_ge t k with c | c
  · have e : (nI t - nI k) + nI la = nI (t + la) - nI k := by
      rw [← nI_add]
      grind
    rw [e, Int32.le_iff_toInt_le, pk_sub_toInt (by omega) (by omega), nI_toInt (by omega)]
    omega
  · rw [pk_sub c, nI_add, nI_leI (by omega) (by omega)]
    omega
theorem la_exp0 {tm : Nat → Nat} {L t k : Nat} (h : ∀ l, l < L → tm l ≤ 800) (ht : t ≤ 800) (hk : k < 16) : ∀ m, m < L → ((nI t - nI k) ≤ nI (tm m + 0) ↔ ¬ tm m + k < t) := by
  intro m hm
  have e := la_exp h ht hk (la := 0) (by omega) m hm
  have e0 : (nI t - nI k) + nI 0 = nI t - nI k := by
    rw [nI_0]
    grind
  rw [e0] at e
  exact e
theorem la_283 (G : la_G) (hG : la_WG G) {add later t k L : Nat} (ha : add ≤ 63) (hla : later ≤ 127) {xs : Nat → Int32} {x r : Int32} {kc ks : Nat} {post : Int32 → Prop} {J : Int32 → Int32 → St1 → St1 → Prop} {f0 f1 f2 f3 f4 f5 : Int32} {f6 : Int64} {f7 : Int32} {a1 a2 a3 a4 a5 a6 a7 a8 : Nat → Int32} {a9 : Nat → Int64} {a10 : Nat → Int32} {a11 : Nat → Int64} {a12 a13 a14 a15 a16 a17 a18 a19 a20 : Nat → Int32} {g0 g1 g2 g3 g4 g5 : Int32} {g6 : Int64} {g7 : Int32} {b1 b2 b3 b4 b5 b6 b7 b8 : Nat → Int32} {b9 : Nat → Int64} {b10 : Nat → Int32} {b11 : Nat → Int64} {b12 b13 b14 b15 b16 b17 b18 b19 b20 : Nat → Int32} (hc : la_RG false 0 0 G (f0, f1, f2, f3, f4, f5, f6, f7, a1, a2, a3, a4, a5, a6, a7, a8, a9, a10, a11, a12, a13, a14, a15, a16, a17, a18, a19, a20)) (hd : la_RG true add later G (g0, g1, g2, g3, g4, g5, g6, g7, b1, b2, b3, b4, b5, b6, b7, b8, b9, b10, b11, b12, b13, b14, b15, b16, b17, b18, b19, b20))
    (K : ∀ (G' : la_G) (c0 c1 c2 c3 c4 c5 : Int32) (c6 : Int64) (c7 : Int32) (m1 m2 m3 m4 m5 m6 m7 m8 : Nat → Int32) (m9 : Nat → Int64) (m10 : Nat → Int32) (m11 : Nat → Int64) (m12 m13 m14 m15 m16 m17 m18 m19 m20 : Nat → Int32) (d0 d1 d2 d3 d4 d5 : Int32) (d6 : Int64) (d7 : Int32) (o1 o2 o3 o4 o5 o6 o7 o8 : Nat → Int32) (o9 : Nat → Int64) (o10 : Nat → Int32) (o11 : Nat → Int64) (o12 o13 o14 o15 o16 o17 o18 o19 o20 : Nat → Int32), la_WG G' → la_RG false 0 0 G' (c0, c1, c2, c3, c4, c5, c6, c7, m1, m2, m3, m4, m5, m6, m7, m8, m9, m10, m11, m12, m13, m14, m15, m16, m17, m18, m19, m20) → la_RG true add later G' (d0, d1, d2, d3, d4, d5, d6, d7, o1, o2, o3, o4, o5, o6, o7, o8, o9, o10, o11, o12, o13, o14, o15, o16, o17, o18, o19, o20) → J (nI t) (nI (k + 1)) (c0, c1, c2, c3, c4, c5, c6, c7, m1, m2, m3, m4, m5, m6, m7, m8, m9, m10, m11, m12, m13, m14, m15, m16, m17, m18, m19, m20) (d0, d1, d2, d3, d4, d5, d6, d7, o1, o2, o3, o4, o5, o6, o7, o8, o9, o10, o11, o12, o13, o14, o15, o16, o17, o18, o19, o20)) :
    wL_law_283 post L xs (fun x5 x6 f0 f1 f2 f3 f4 f5 f6 f7 a1 a2 a3 a4 a5 a6 a7 a8 a9 a10 a11 a12 a13 a14 a15 a16 a17 a18 a19 a20 g0 g1 g2 g3 g4 g5 g6 g7 b1 b2 b3 b4 b5 b6 b7 b8 b9 b10 b11 b12 b13 b14 b15 b16 b17 b18 b19 b20 => J x5 x6 (f0, f1, f2, f3, f4, f5, f6, f7, a1, a2, a3, a4, a5, a6, a7, a8, a9, a10, a11, a12, a13, a14, a15, a16, a17, a18, a19, a20) (g0, g1, g2, g3, g4, g5, g6, g7, b1, b2, b3, b4, b5, b6, b7, b8, b9, b10, b11, b12, b13, b14, b15, b16, b17, b18, b19, b20)) (nI add) (nI later) (nI t) (nI k) x r r kc ks f0 f1 f2 f3 f4 f5 f6 f7 a1 a2 a3 a4 a5 a6 a7 a8 a9 a10 a11 a12 a13 a14 a15 a16 a17 a18 a19 a20 g0 g1 g2 g3 g4 g5 g6 g7 b1 b2 b3 b4 b5 b6 b7 b8 b9 b10 b11 b12 b13 b14 b15 b16 b17 b18 b19 b20 := by
  unfold wL_law_283
  refine br_t rfl (br_c (fun _ => ?_) (fun _ => nm_r (nI_1 k) (K G f0 f1 f2 f3 f4 f5 f6 f7 a1 a2 a3 a4 a5 a6 a7 a8 a9 a10 a11 a12 a13 a14 a15 a16 a17 a18 a19 a20 g0 g1 g2 g3 g4 g5 g6 g7 b1 b2 b3 b4 b5 b6 b7 b8 b9 b10 b11 b12 b13 b14 b15 b16 b17 b18 b19 b20 hG hc hd)))
  refine la_same G hG ha hla _ hc hd ?_
  intro G' c0 c1 c2 c3 c4 c5 c6 c7 m1 m2 m3 m4 m5 m6 m7 m8 m9 m10 m11 m12 m13 m14 m15 m16 m17 m18 m19 m20 d0 d1 d2 d3 d4 d5 d6 d7 o1 o2 o3 o4 o5 o6 o7 o8 o9 o10 o11 o12 o13 o14 o15 o16 o17 o18 o19 o20 q1 q2 q3
  exact br_f (by decide) (nm_r (nI_1 k) (K G' c0 c1 c2 c3 c4 c5 c6 c7 m1 m2 m3 m4 m5 m6 m7 m8 m9 m10 m11 m12 m13 m14 m15 m16 m17 m18 m19 m20 d0 d1 d2 d3 d4 d5 d6 d7 o1 o2 o3 o4 o5 o6 o7 o8 o9 o10 o11 o12 o13 o14 o15 o16 o17 o18 o19 o20 q1 q2 q3))
theorem la_law_step (G : la_G) (hG : la_WG G) {add later t k L n : Nat} (hL : L ≤ 260) (ha : add ≤ 63) (hla : later ≤ 127) (hk : k < L) (hk90 : k < 90) (ht : t ≤ 3 * k) {xs : Nat → Int32} {kc ks : Nat} {post : Int32 → Prop} {f0 f1 f2 f3 f4 f5 : Int32} {f6 : Int64} {f7 : Int32} {a1 a2 a3 a4 a5 a6 a7 a8 : Nat → Int32} {a9 : Nat → Int64} {a10 : Nat → Int32} {a11 : Nat → Int64} {a12 a13 a14 a15 a16 a17 a18 a19 a20 : Nat → Int32} {g0 g1 g2 g3 g4 g5 : Int32} {g6 : Int64} {g7 : Int32} {b1 b2 b3 b4 b5 b6 b7 b8 : Nat → Int32} {b9 : Nat → Int64} {b10 : Nat → Int32} {b11 : Nat → Int64} {b12 b13 b14 b15 b16 b17 b18 b19 b20 : Nat → Int32} (hc : la_RG false 0 0 G (f0, f1, f2, f3, f4, f5, f6, f7, a1, a2, a3, a4, a5, a6, a7, a8, a9, a10, a11, a12, a13, a14, a15, a16, a17, a18, a19, a20)) (hd : la_RG true add later G (g0, g1, g2, g3, g4, g5, g6, g7, b1, b2, b3, b4, b5, b6, b7, b8, b9, b10, b11, b12, b13, b14, b15, b16, b17, b18, b19, b20))
    (K : ∀ (t' : Nat) (G' : la_G) (c0 c1 c2 c3 c4 c5 : Int32) (c6 : Int64) (c7 : Int32) (m1 m2 m3 m4 m5 m6 m7 m8 : Nat → Int32) (m9 : Nat → Int64) (m10 : Nat → Int32) (m11 : Nat → Int64) (m12 m13 m14 m15 m16 m17 m18 m19 m20 : Nat → Int32) (d0 d1 d2 d3 d4 d5 : Int32) (d6 : Int64) (d7 : Int32) (o1 o2 o3 o4 o5 o6 o7 o8 : Nat → Int32) (o9 : Nat → Int64) (o10 : Nat → Int32) (o11 : Nat → Int64) (o12 o13 o14 o15 o16 o17 o18 o19 o20 : Nat → Int32), t' ≤ 3 * (k + 1) → la_WG G' → la_RG false 0 0 G' (c0, c1, c2, c3, c4, c5, c6, c7, m1, m2, m3, m4, m5, m6, m7, m8, m9, m10, m11, m12, m13, m14, m15, m16, m17, m18, m19, m20) → la_RG true add later G' (d0, d1, d2, d3, d4, d5, d6, d7, o1, o2, o3, o4, o5, o6, o7, o8, o9, o10, o11, o12, o13, o14, o15, o16, o17, o18, o19, o20) → wL_law_44 post L xs (nI add) (nI later) kc ks n (nI t') (nI (k + 1)) c0 c1 c2 c3 c4 c5 c6 c7 m1 m2 m3 m4 m5 m6 m7 m8 m9 m10 m11 m12 m13 m14 m15 m16 m17 m18 m19 m20 d0 d1 d2 d3 d4 d5 d6 d7 o1 o2 o3 o4 o5 o6 o7 o8 o9 o10 o11 o12 o13 o14 o15 o16 o17 o18 o19 o20) :
    wL_law_44 post L xs (nI add) (nI later) kc ks (n + 1) (nI t) (nI k) f0 f1 f2 f3 f4 f5 f6 f7 a1 a2 a3 a4 a5 a6 a7 a8 a9 a10 a11 a12 a13 a14 a15 a16 a17 a18 a19 a20 g0 g1 g2 g3 g4 g5 g6 g7 b1 b2 b3 b4 b5 b6 b7 b8 b9 b10 b11 b12 b13 b14 b15 b16 b17 b18 b19 b20 := by
  have fin : ∀ (t' : Nat) (G' : la_G) (r : Int32) (c0 c1 c2 c3 c4 c5 : Int32) (c6 : Int64) (c7 : Int32) (m1 m2 m3 m4 m5 m6 m7 m8 : Nat → Int32) (m9 : Nat → Int64) (m10 : Nat → Int32) (m11 : Nat → Int64) (m12 m13 m14 m15 m16 m17 m18 m19 m20 : Nat → Int32) (d0 d1 d2 d3 d4 d5 : Int32) (d6 : Int64) (d7 : Int32) (o1 o2 o3 o4 o5 o6 o7 o8 : Nat → Int32) (o9 : Nat → Int64) (o10 : Nat → Int32) (o11 : Nat → Int64) (o12 o13 o14 o15 o16 o17 o18 o19 o20 : Nat → Int32), t' ≤ 3 * (k + 1) → la_WG G' → la_RG false 0 0 G' (c0, c1, c2, c3, c4, c5, c6, c7, m1, m2, m3, m4, m5, m6, m7, m8, m9, m10, m11, m12, m13, m14, m15, m16, m17, m18, m19, m20) → la_RG true add later G' (d0, d1, d2, d3, d4, d5, d6, d7, o1, o2, o3, o4, o5, o6, o7, o8, o9, o10, o11, o12, o13, o14, o15, o16, o17, o18, o19, o20) → wL_law_283 post L xs (wL_law_44 post L xs (nI add) (nI later) kc ks n) (nI add) (nI later) (nI t') (nI k) (xs k) r r kc ks c0 c1 c2 c3 c4 c5 c6 c7 m1 m2 m3 m4 m5 m6 m7 m8 m9 m10 m11 m12 m13 m14 m15 m16 m17 m18 m19 m20 d0 d1 d2 d3 d4 d5 d6 d7 o1 o2 o3 o4 o5 o6 o7 o8 o9 o10 o11 o12 o13 o14 o15 o16 o17 o18 o19 o20 := by
    intro t' G' r c0 c1 c2 c3 c4 c5 c6 c7 m1 m2 m3 m4 m5 m6 m7 m8 m9 m10 m11 m12 m13 m14 m15 m16 m17 m18 m19 m20 d0 d1 d2 d3 d4 d5 d6 d7 o1 o2 o3 o4 o5 o6 o7 o8 o9 o10 o11 o12 o13 o14 o15 o16 o17 o18 o19 o20 q0 q1 q2 q3
    exact la_283 (J := fun x5 x6 z1 z2 => wL_law_44 post L xs (nI add) (nI later) kc ks n x5 x6 z1.1 z1.2.1 z1.2.2.1 z1.2.2.2.1 z1.2.2.2.2.1 z1.2.2.2.2.2.1 z1.2.2.2.2.2.2.1 z1.2.2.2.2.2.2.2.1 z1.2.2.2.2.2.2.2.2.1 z1.2.2.2.2.2.2.2.2.2.1 z1.2.2.2.2.2.2.2.2.2.2.1 z1.2.2.2.2.2.2.2.2.2.2.2.1 z1.2.2.2.2.2.2.2.2.2.2.2.2.1 z1.2.2.2.2.2.2.2.2.2.2.2.2.2.1 z1.2.2.2.2.2.2.2.2.2.2.2.2.2.2.1 z1.2.2.2.2.2.2.2.2.2.2.2.2.2.2.2.1 z1.2.2.2.2.2.2.2.2.2.2.2.2.2.2.2.2.1 z1.2.2.2.2.2.2.2.2.2.2.2.2.2.2.2.2.2.1 z1.2.2.2.2.2.2.2.2.2.2.2.2.2.2.2.2.2.2.1 z1.2.2.2.2.2.2.2.2.2.2.2.2.2.2.2.2.2.2.2.1 z1.2.2.2.2.2.2.2.2.2.2.2.2.2.2.2.2.2.2.2.2.1 z1.2.2.2.2.2.2.2.2.2.2.2.2.2.2.2.2.2.2.2.2.2.1 z1.2.2.2.2.2.2.2.2.2.2.2.2.2.2.2.2.2.2.2.2.2.2.1 z1.2.2.2.2.2.2.2.2.2.2.2.2.2.2.2.2.2.2.2.2.2.2.2.1 z1.2.2.2.2.2.2.2.2.2.2.2.2.2.2.2.2.2.2.2.2.2.2.2.2.1 z1.2.2.2.2.2.2.2.2.2.2.2.2.2.2.2.2.2.2.2.2.2.2.2.2.2.1 z1.2.2.2.2.2.2.2.2.2.2.2.2.2.2.2.2.2.2.2.2.2.2.2.2.2.2.1 z1.2.2.2.2.2.2.2.2.2.2.2.2.2.2.2.2.2.2.2.2.2.2.2.2.2.2.2 z2.1 z2.2.1 z2.2.2.1 z2.2.2.2.1 z2.2.2.2.2.1 z2.2.2.2.2.2.1 z2.2.2.2.2.2.2.1 z2.2.2.2.2.2.2.2.1 z2.2.2.2.2.2.2.2.2.1 z2.2.2.2.2.2.2.2.2.2.1 z2.2.2.2.2.2.2.2.2.2.2.1 z2.2.2.2.2.2.2.2.2.2.2.2.1 z2.2.2.2.2.2.2.2.2.2.2.2.2.1 z2.2.2.2.2.2.2.2.2.2.2.2.2.2.1 z2.2.2.2.2.2.2.2.2.2.2.2.2.2.2.1 z2.2.2.2.2.2.2.2.2.2.2.2.2.2.2.2.1 z2.2.2.2.2.2.2.2.2.2.2.2.2.2.2.2.2.1 z2.2.2.2.2.2.2.2.2.2.2.2.2.2.2.2.2.2.1 z2.2.2.2.2.2.2.2.2.2.2.2.2.2.2.2.2.2.2.1 z2.2.2.2.2.2.2.2.2.2.2.2.2.2.2.2.2.2.2.2.1 z2.2.2.2.2.2.2.2.2.2.2.2.2.2.2.2.2.2.2.2.2.1 z2.2.2.2.2.2.2.2.2.2.2.2.2.2.2.2.2.2.2.2.2.2.1 z2.2.2.2.2.2.2.2.2.2.2.2.2.2.2.2.2.2.2.2.2.2.2.1 z2.2.2.2.2.2.2.2.2.2.2.2.2.2.2.2.2.2.2.2.2.2.2.2.1 z2.2.2.2.2.2.2.2.2.2.2.2.2.2.2.2.2.2.2.2.2.2.2.2.2.1 z2.2.2.2.2.2.2.2.2.2.2.2.2.2.2.2.2.2.2.2.2.2.2.2.2.2.1 z2.2.2.2.2.2.2.2.2.2.2.2.2.2.2.2.2.2.2.2.2.2.2.2.2.2.2.1 z2.2.2.2.2.2.2.2.2.2.2.2.2.2.2.2.2.2.2.2.2.2.2.2.2.2.2.2) G' q1 ha hla q2 q3 (fun G2 e0 e1 e2 e3 e4 e5 e6 e7 q1 q2 q3 q4 q5 q6 q7 q8 q9 q10 q11 q12 q13 q14 q15 q16 q17 q18 q19 q20 i0 i1 i2 i3 i4 i5 i6 i7 r1 r2 r3 r4 r5 r6 r7 r8 r9 r10 r11 r12 r13 r14 r15 r16 r17 r18 r19 r20 y1 y2 y3 => K t' G2 e0 e1 e2 e3 e4 e5 e6 e7 q1 q2 q3 q4 q5 q6 q7 q8 q9 q10 q11 q12 q13 q14 q15 q16 q17 q18 q19 q20 i0 i1 i2 i3 i4 i5 i6 i7 r1 r2 r3 r4 r5 r6 r7 r8 r9 r10 r11 r12 r13 r14 r15 r16 r17 r18 r19 r20 q0 y1 y2 y3)
  have hx4 : ∀ l, l < G.2.2.2.2.2.2.1 → G.2.2.2.2.2.2.2.1 l ≤ 800 := hG.2.2.2.2.2.2.1
  obtain ⟨kd, hkd, ekd⟩ := pk_andE (xs k >>> ((24 : Int32) &&& 31)) (m := 255) 8 (by decide)
  have hkd' : kd < 256 := hkd
  have erem : nI kd - nI kd / 20 * 20 = nI (kd % 20) := pk_rem (a := kd) (d := 20) (by omega) (by omega) (by omega)
  refine pk_le L k (fun z => absurd z (by omega)) (fun _ => pk_le 90 k (fun z => absurd z (by omega)) (fun _ => ⟨pk_in k L hk, ?_⟩))
  rw [nI_clamp (by omega)]
  have erem2 : ((xs k >>> ((24 : Int32) &&& 31)) &&& 255) - ((xs k >>> ((24 : Int32) &&& 31)) &&& 255) / 20 * 20 = nI (kd % 20) := by
    rw [ekd]
    exact erem
  refine nm_e ⟨by decide, nm_r erem2 ?_⟩
  refine pk_le 9 (kd % 20) (fun c9 => pk_le 14 (kd % 20) (fun c14 => pk_eq (kd % 20) 14 (fun c => ?_) (fun c => pk_eq (kd % 20) 15 (fun c15 => ?_) (fun c15 => pk_le 19 (kd % 20) (fun c19 => ?_) (fun c19 => ?_)))) (fun c14 => ?_)) (fun c9 => ?_)
  · -- recall
    obtain ⟨m, hm, em⟩ := pk_andE (xs k) (m := 7) 3 (by decide)
    have hm' : m < 8 := hm
    obtain ⟨r, G', q1, q2⟩ := la_orecall G hG m (by omega)
    rw [em]
    refine q2 _ false 0 0 _ hc (fun u1 hc1 => ?_)
    obtain ⟨c0, c1, c2, c3, c4, c5, c6, c7, m1, m2, m3, m4, m5, m6, m7, m8, m9, m10, m11, m12, m13, m14, m15, m16, m17, m18, m19, m20⟩ := u1
    refine q2 _ true add later _ hd (fun u2 hd1 => ?_)
    obtain ⟨d0, d1, d2, d3, d4, d5, d6, d7, o1, o2, o3, o4, o5, o6, o7, o8, o9, o10, o11, o12, o13, o14, o15, o16, o17, o18, o19, o20⟩ := u2
    exact fin t G' r c0 c1 c2 c3 c4 c5 c6 c7 m1 m2 m3 m4 m5 m6 m7 m8 m9 m10 m11 m12 m13 m14 m15 m16 m17 m18 m19 m20 d0 d1 d2 d3 d4 d5 d6 d7 o1 o2 o3 o4 o5 o6 o7 o8 o9 o10 o11 o12 o13 o14 o15 o16 o17 o18 o19 o20 (by omega) q1 hc1 hd1
  · -- expire
    obtain ⟨m, hm, em⟩ := pk_andE (xs k) (m := 15) 4 (by decide)
    have hm' : m < 16 := hm
    obtain ⟨r, G', q1, q2⟩ := la_oexpire G hG (fun l => G.2.2.2.2.2.2.2.1 l + m < t)
    rw [em]
    refine q2 _ false 0 0 _ _ (by omega) hc (la_exp0 hx4 (by omega) hm') (fun u1 hc1 => ?_)
    obtain ⟨c0, c1, c2, c3, c4, c5, c6, c7, m1, m2, m3, m4, m5, m6, m7, m8, m9, m10, m11, m12, m13, m14, m15, m16, m17, m18, m19, m20⟩ := u1
    refine q2 _ true add later _ _ ha hd (la_exp hx4 (by omega) hm' hla) (fun u2 hd1 => ?_)
    obtain ⟨d0, d1, d2, d3, d4, d5, d6, d7, o1, o2, o3, o4, o5, o6, o7, o8, o9, o10, o11, o12, o13, o14, o15, o16, o17, o18, o19, o20⟩ := u2
    exact fin t G' r c0 c1 c2 c3 c4 c5 c6 c7 m1 m2 m3 m4 m5 m6 m7 m8 m9 m10 m11 m12 m13 m14 m15 m16 m17 m18 m19 m20 d0 d1 d2 d3 d4 d5 d6 d7 o1 o2 o3 o4 o5 o6 o7 o8 o9 o10 o11 o12 o13 o14 o15 o16 o17 o18 o19 o20 (by omega) q1 hc1 hd1
  · -- blank
    obtain ⟨r, G', q1, q2⟩ := la_oblank G hG
    refine q2 _ false 0 0 _ hc (fun u1 hc1 => ?_)
    obtain ⟨c0, c1, c2, c3, c4, c5, c6, c7, m1, m2, m3, m4, m5, m6, m7, m8, m9, m10, m11, m12, m13, m14, m15, m16, m17, m18, m19, m20⟩ := u1
    refine q2 _ true add later _ hd (fun u2 hd1 => ?_)
    obtain ⟨d0, d1, d2, d3, d4, d5, d6, d7, o1, o2, o3, o4, o5, o6, o7, o8, o9, o10, o11, o12, o13, o14, o15, o16, o17, o18, o19, o20⟩ := u2
    exact fin t G' r c0 c1 c2 c3 c4 c5 c6 c7 m1 m2 m3 m4 m5 m6 m7 m8 m9 m10 m11 m12 m13 m14 m15 m16 m17 m18 m19 m20 d0 d1 d2 d3 d4 d5 d6 d7 o1 o2 o3 o4 o5 o6 o7 o8 o9 o10 o11 o12 o13 o14 o15 o16 o17 o18 o19 o20 (by omega) q1 hc1 hd1
  · -- part
    obtain ⟨p, hp, hP⟩ := la_lPart (xs k)
    obtain ⟨r, G', q1, q2⟩ := la_opart G hG p hp
    have q20 := fun post u hR h => q2 post false 0 0 u (by omega) hR h
    rw [la_P_0] at q20
    refine hP _ (q20 _ _ hc (fun u1 hc1 => ?_))
    obtain ⟨c0, c1, c2, c3, c4, c5, c6, c7, m1, m2, m3, m4, m5, m6, m7, m8, m9, m10, m11, m12, m13, m14, m15, m16, m17, m18, m19, m20⟩ := u1
    refine la_pturn hp (q2 _ true add later _ ha hd (fun u2 hd1 => ?_))
    obtain ⟨d0, d1, d2, d3, d4, d5, d6, d7, o1, o2, o3, o4, o5, o6, o7, o8, o9, o10, o11, o12, o13, o14, o15, o16, o17, o18, o19, o20⟩ := u2
    exact fin t G' r c0 c1 c2 c3 c4 c5 c6 c7 m1 m2 m3 m4 m5 m6 m7 m8 m9 m10 m11 m12 m13 m14 m15 m16 m17 m18 m19 m20 d0 d1 d2 d3 d4 d5 d6 d7 o1 o2 o3 o4 o5 o6 o7 o8 o9 o10 o11 o12 o13 o14 o15 o16 o17 o18 o19 o20 (by omega) q1 hc1 hd1
  · -- write
    obtain ⟨m, hm, em⟩ := pk_andE (xs k >>> ((4 : Int32) &&& 31)) (m := 3) 2 (by decide)
    have hm' : m < 4 := hm
    obtain ⟨r, G', q1, q2⟩ := la_owrite G hG (t + m) (by omega)
    refine nm_r (by rw [em, nI_add]) ?_
    rw [nI_add (t + m) later]
    refine q2 _ false 0 0 _ (by omega) (by omega) hc (fun u1 hc1 => ?_)
    obtain ⟨c0, c1, c2, c3, c4, c5, c6, c7, m1, m2, m3, m4, m5, m6, m7, m8, m9, m10, m11, m12, m13, m14, m15, m16, m17, m18, m19, m20⟩ := u1
    refine q2 _ true add later _ ha hla hd (fun u2 hd1 => ?_)
    obtain ⟨d0, d1, d2, d3, d4, d5, d6, d7, o1, o2, o3, o4, o5, o6, o7, o8, o9, o10, o11, o12, o13, o14, o15, o16, o17, o18, o19, o20⟩ := u2
    exact fin (t + m) G' r c0 c1 c2 c3 c4 c5 c6 c7 m1 m2 m3 m4 m5 m6 m7 m8 m9 m10 m11 m12 m13 m14 m15 m16 m17 m18 m19 m20 d0 d1 d2 d3 d4 d5 d6 d7 o1 o2 o3 o4 o5 o6 o7 o8 o9 o10 o11 o12 o13 o14 o15 o16 o17 o18 o19 o20 (by omega) q1 hc1 hd1
  · -- item
    obtain ⟨i, hi, hI⟩ := la_lItem (xs k)
    obtain ⟨r, G', q1, q2⟩ := la_oitem G hG i hi
    have q20 := fun post u hR h => q2 post false 0 0 u (by omega) hR h
    rw [la_I_0] at q20
    refine hI _ (q20 _ _ hc (fun u1 hc1 => ?_))
    obtain ⟨c0, c1, c2, c3, c4, c5, c6, c7, m1, m2, m3, m4, m5, m6, m7, m8, m9, m10, m11, m12, m13, m14, m15, m16, m17, m18, m19, m20⟩ := u1
    refine la_turn hi (q2 _ true add later _ ha hd (fun u2 hd1 => ?_))
    obtain ⟨d0, d1, d2, d3, d4, d5, d6, d7, o1, o2, o3, o4, o5, o6, o7, o8, o9, o10, o11, o12, o13, o14, o15, o16, o17, o18, o19, o20⟩ := u2
    exact fin t G' r c0 c1 c2 c3 c4 c5 c6 c7 m1 m2 m3 m4 m5 m6 m7 m8 m9 m10 m11 m12 m13 m14 m15 m16 m17 m18 m19 m20 d0 d1 d2 d3 d4 d5 d6 d7 o1 o2 o3 o4 o5 o6 o7 o8 o9 o10 o11 o12 o13 o14 o15 o16 o17 o18 o19 o20 (by omega) q1 hc1 hd1
theorem la_init : ∃ X' : la_X, la_WX X' ∧ ∀ (post : St1 → Prop) (fl : Bool) (ad la : Nat), (∀ u', la_RG fl ad la (0, fun _ => 0, 0, fun _ => 0, 0, 0, X') u' → post u') → wpX_init post 20 4813 (0, 0, 0, 0, 0, 0, 0, 0) := by
  obtain ⟨X', e1, e2, e3⟩ := la_empty (0, fun _ => 0, fun _ => 0, fun _ _ => 0, 0, fun _ => 0, fun _ _ => 0, fun _ => 0, fun _ => 0, 0, fun _ => 0, fun _ => 0, fun _ => 0, fun _ => 0, fun _ => [])
  refine ⟨X', e1, ?_⟩
  intro post fl ad la h
  unfold wpX_init
  iterate 40 refine ⟨by omega, ?_⟩
  refine e3 _ fl ad la _ _ _ _ _ _ _ _ _ _ _ _ _ _ _ _ _ _ _ _ _ _ _ _ _ _ _ _ rfl rfl rfl rfl ?_
  intro g2 g3 g4 b3 b4 b5 b6 b7 b8 b9 b10 b11 b12 b13 b14 b15 hX
  exact h _ ⟨rfl, fun i hi => absurd hi (by omega), rfl, fun i hi => absurd hi (by omega), rfl, rfl, hX⟩
theorem i_vc (xs : Nat → Int32) (L : Nat) (hL : L ≤ 260) : wpL_law (fun r => r = 1) L xs := by
  obtain ⟨X0, hX0, hin⟩ := la_init
  obtain ⟨r0, hr0⟩ := la_cell L hL xs
  obtain ⟨add, hadd, eadd⟩ := pk_andE r0 (m := 63) 6 (by decide)
  obtain ⟨later, hlat, elat⟩ := pk_andE (r0 >>> ((6 : Int32) &&& 31)) (m := 127) 7 (by decide)
  have hadd' : add < 64 := hadd
  have hlat' : later < 128 := hlat
  have hG0 : la_WG (0, fun _ => 0, 0, fun _ => 0, 0, 0, X0) := ⟨by omega, fun i hi => absurd hi (by omega), ⟨by omega, fun i hi => absurd hi (by omega)⟩, hX0⟩
  unfold wpL_law
  refine ⟨20, 4813, by omega, by omega, hin _ false 0 0 (fun u hc => ?_)⟩
  obtain ⟨f0, f1, f2, f3, f4, f5, f6, f7, a1, a2, a3, a4, a5, a6, a7, a8, a9, a10, a11, a12, a13, a14, a15, a16, a17, a18, a19, a20⟩ := u
  refine ⟨by omega, by omega, 20, 4813, by omega, by omega, hin _ true add later (fun v hd => ?_)⟩
  obtain ⟨g0, g1, g2, g3, g4, g5, g6, g7, b1, b2, b3, b4, b5, b6, b7, b8, b9, b10, b11, b12, b13, b14, b15, b16, b17, b18, b19, b20⟩ := v
  refine hr0 _ (nm_r eadd (hr0 _ (nm_r elat ?_)))
  have fin : ∀ (G : la_G) (c0 c1 c2 c3 c4 c5 : Int32) (c6 : Int64) (c7 : Int32) (m1 m2 m3 m4 m5 m6 m7 m8 : Nat → Int32) (m9 : Nat → Int64) (m10 : Nat → Int32) (m11 : Nat → Int64) (m12 m13 m14 m15 m16 m17 m18 m19 m20 : Nat → Int32) (d0 d1 d2 d3 d4 d5 : Int32) (d6 : Int64) (d7 : Int32) (o1 o2 o3 o4 o5 o6 o7 o8 : Nat → Int32) (o9 : Nat → Int64) (o10 : Nat → Int32) (o11 : Nat → Int64) (o12 o13 o14 o15 o16 o17 o18 o19 o20 : Nat → Int32), la_WG G → la_RG false 0 0 G (c0, c1, c2, c3, c4, c5, c6, c7, m1, m2, m3, m4, m5, m6, m7, m8, m9, m10, m11, m12, m13, m14, m15, m16, m17, m18, m19, m20) → la_RG true add later G (d0, d1, d2, d3, d4, d5, d6, d7, o1, o2, o3, o4, o5, o6, o7, o8, o9, o10, o11, o12, o13, o14, o15, o16, o17, o18, o19, o20) → wL_law_323 (fun r => r = 1) L xs (nI add) (nI later) (1 + 20 + 1 + 20) (28 + 4813 + 28 + 4813) c0 c1 c2 c3 c4 c5 c6 c7 m1 m2 m3 m4 m5 m6 m7 m8 m9 m10 m11 m12 m13 m14 m15 m16 m17 m18 m19 m20 d0 d1 d2 d3 d4 d5 d6 d7 o1 o2 o3 o4 o5 o6 o7 o8 o9 o10 o11 o12 o13 o14 o15 o16 o17 o18 o19 o20 := by
    intro G c0 c1 c2 c3 c4 c5 c6 c7 m1 m2 m3 m4 m5 m6 m7 m8 m9 m10 m11 m12 m13 m14 m15 m16 m17 m18 m19 m20 d0 d1 d2 d3 d4 d5 d6 d7 o1 o2 o3 o4 o5 o6 o7 o8 o9 o10 o11 o12 o13 o14 o15 o16 o17 o18 o19 o20 q1 q2 q3
    unfold wL_law_323
    exact la_same G q1 (by omega) (by omega) _ q2 q3 (fun G' e0 e1 e2 e3 e4 e5 e6 e7 q1 q2 q3 q4 q5 q6 q7 q8 q9 q10 q11 q12 q13 q14 q15 q16 q17 q18 q19 q20 i0 i1 i2 i3 i4 i5 i6 i7 r1 r2 r3 r4 r5 r6 r7 r8 r9 r10 r11 r12 r13 r14 r15 r16 r17 r18 r19 r20 _ _ _ => rfl)
  have key : ∀ j k (t : Nat) (G : la_G) (c0 c1 c2 c3 c4 c5 : Int32) (c6 : Int64) (c7 : Int32) (m1 m2 m3 m4 m5 m6 m7 m8 : Nat → Int32) (m9 : Nat → Int64) (m10 : Nat → Int32) (m11 : Nat → Int64) (m12 m13 m14 m15 m16 m17 m18 m19 m20 : Nat → Int32) (d0 d1 d2 d3 d4 d5 : Int32) (d6 : Int64) (d7 : Int32) (o1 o2 o3 o4 o5 o6 o7 o8 : Nat → Int32) (o9 : Nat → Int64) (o10 : Nat → Int32) (o11 : Nat → Int64) (o12 o13 o14 o15 o16 o17 o18 o19 o20 : Nat → Int32), k + j = 90 → t ≤ 3 * k → la_WG G → la_RG false 0 0 G (c0, c1, c2, c3, c4, c5, c6, c7, m1, m2, m3, m4, m5, m6, m7, m8, m9, m10, m11, m12, m13, m14, m15, m16, m17, m18, m19, m20) → la_RG true add later G (d0, d1, d2, d3, d4, d5, d6, d7, o1, o2, o3, o4, o5, o6, o7, o8, o9, o10, o11, o12, o13, o14, o15, o16, o17, o18, o19, o20) → wL_law_44 (fun r => r = 1) L xs (nI add) (nI later) (1 + 20 + 1 + 20) (28 + 4813 + 28 + 4813) (j + 1) (nI t) (nI k) c0 c1 c2 c3 c4 c5 c6 c7 m1 m2 m3 m4 m5 m6 m7 m8 m9 m10 m11 m12 m13 m14 m15 m16 m17 m18 m19 m20 d0 d1 d2 d3 d4 d5 d6 d7 o1 o2 o3 o4 o5 o6 o7 o8 o9 o10 o11 o12 o13 o14 o15 o16 o17 o18 o19 o20 := by
    intro j
    induction j with
    | zero =>
      intro k t G c0 c1 c2 c3 c4 c5 c6 c7 m1 m2 m3 m4 m5 m6 m7 m8 m9 m10 m11 m12 m13 m14 m15 m16 m17 m18 m19 m20 d0 d1 d2 d3 d4 d5 d6 d7 o1 o2 o3 o4 o5 o6 o7 o8 o9 o10 o11 o12 o13 o14 o15 o16 o17 o18 o19 o20 hk ht q1 q2 q3
      exact pk_le L k (fun _ => fin G c0 c1 c2 c3 c4 c5 c6 c7 m1 m2 m3 m4 m5 m6 m7 m8 m9 m10 m11 m12 m13 m14 m15 m16 m17 m18 m19 m20 d0 d1 d2 d3 d4 d5 d6 d7 o1 o2 o3 o4 o5 o6 o7 o8 o9 o10 o11 o12 o13 o14 o15 o16 o17 o18 o19 o20 q1 q2 q3) (fun _ => pk_le 90 k (fun _ => fin G c0 c1 c2 c3 c4 c5 c6 c7 m1 m2 m3 m4 m5 m6 m7 m8 m9 m10 m11 m12 m13 m14 m15 m16 m17 m18 m19 m20 d0 d1 d2 d3 d4 d5 d6 d7 o1 o2 o3 o4 o5 o6 o7 o8 o9 o10 o11 o12 o13 o14 o15 o16 o17 o18 o19 o20 q1 q2 q3) (fun z => absurd z (by omega)))
    | succ j ih =>
      intro k t G c0 c1 c2 c3 c4 c5 c6 c7 m1 m2 m3 m4 m5 m6 m7 m8 m9 m10 m11 m12 m13 m14 m15 m16 m17 m18 m19 m20 d0 d1 d2 d3 d4 d5 d6 d7 o1 o2 o3 o4 o5 o6 o7 o8 o9 o10 o11 o12 o13 o14 o15 o16 o17 o18 o19 o20 hk ht q1 q2 q3
      rcases Nat.lt_or_ge k L with c | c
      · exact la_law_step G q1 hL (by omega) (by omega) c (by omega) ht q2 q3 (fun t' G' e0 e1 e2 e3 e4 e5 e6 e7 q1 q2 q3 q4 q5 q6 q7 q8 q9 q10 q11 q12 q13 q14 q15 q16 q17 q18 q19 q20 i0 i1 i2 i3 i4 i5 i6 i7 r1 r2 r3 r4 r5 r6 r7 r8 r9 r10 r11 r12 r13 r14 r15 r16 r17 r18 r19 r20 y0 y1 y2 y3 => ih (k + 1) t' G' e0 e1 e2 e3 e4 e5 e6 e7 q1 q2 q3 q4 q5 q6 q7 q8 q9 q10 q11 q12 q13 q14 q15 q16 q17 q18 q19 q20 i0 i1 i2 i3 i4 i5 i6 i7 r1 r2 r3 r4 r5 r6 r7 r8 r9 r10 r11 r12 r13 r14 r15 r16 r17 r18 r19 r20 (by omega) y0 y1 y2 y3)
      · exact pk_le L k (fun _ => fin G c0 c1 c2 c3 c4 c5 c6 c7 m1 m2 m3 m4 m5 m6 m7 m8 m9 m10 m11 m12 m13 m14 m15 m16 m17 m18 m19 m20 d0 d1 d2 d3 d4 d5 d6 d7 o1 o2 o3 o4 o5 o6 o7 o8 o9 o10 o11 o12 o13 o14 o15 o16 o17 o18 o19 o20 q1 q2 q3) (fun z => absurd z (by omega))
  exact ⟨_, key 89 1 0 _ f0 f1 f2 f3 f4 f5 f6 f7 a1 a2 a3 a4 a5 a6 a7 a8 a9 a10 a11 a12 a13 a14 a15 a16 a17 a18 a19 a20 g0 g1 g2 g3 g4 g5 g6 g7 b1 b2 b3 b4 b5 b6 b7 b8 b9 b10 b11 b12 b13 b14 b15 b16 b17 b18 b19 b20 (by omega) (by omega) hG0 hc hd⟩
end
