section
/-! bits: the family 'Int32 by its bits' of BITS.to-paste, renamed -/
def eb_t (x : Int32) (i : Nat) : Bool := x.toBitVec.getLsbD i
theorem eb_ext {x y : Int32} (h : ∀ i, i < 32 → eb_t x i = eb_t y i) : x = y := Int32.toBitVec_inj.mp (BitVec.eq_of_getLsbD_eq (fun i hi => h i hi))
theorem eb_or (x y : Int32) (i : Nat) : eb_t (x ||| y) i = (eb_t x i || eb_t y i) := by unfold eb_t; rw [Int32.toBitVec_or, BitVec.getLsbD_or]
theorem eb_and (x y : Int32) (i : Nat) : eb_t (x &&& y) i = (eb_t x i && eb_t y i) := by unfold eb_t; rw [Int32.toBitVec_and, BitVec.getLsbD_and]
theorem eb_0 (i : Nat) : eb_t 0 i = false := BitVec.getLsbD_zero
theorem eb_sl : ∀ n, n < 32 → ((nI n &&& 31).toBitVec.smod 32).toNat = n := by decide +kernel
theorem eb_sshr (n : Nat) (hn : n < 32) (x : Int32) {i : Nat} (hi : i < 32) : eb_t (x >>> (nI n &&& 31)) i = if n + i < 32 then eb_t x (n + i) else eb_t x 31 := by
  unfold eb_t
  rw [Int32.toBitVec_shiftRight]
  show (x.toBitVec.sshiftRight ((nI n &&& 31).toBitVec.smod 32).toNat).getLsbD i = _
  rw [eb_sl n hn, BitVec.getLsbD_sshiftRight, BitVec.msb_eq_getLsbD_last]
  simp [hi]
theorem eb_bit1 : ∀ i, i < 32 → eb_t 1 i = decide (i = 0) := by decide +kernel
/-- one bit, shifted in -/
theorem eb_one : ∀ m, m < 20 → ∀ o, o < 32 → eb_t ((1 : Int32) <<< (nI m &&& 31)) o = decide (o = m) := by decide +kernel
theorem eb_low : ∀ m, m < 8 → ∀ o, o < 32 → eb_t (((2 : Int32) <<< (nI m &&& 31)) - 1) o = decide (o ≤ m) := by decide +kernel
theorem eb_all : ∀ m, m < 9 → ∀ o, o < 32 → eb_t (nI (2 ^ m - 1)) o = decide (o < m) := by decide +kernel
theorem eb_allS : ∀ m, m < 9 → ((1 : Int32) <<< (nI m &&& 31)) - 1 = nI (2 ^ m - 1) := by decide +kernel
theorem eb_more : ∀ m, m < 8 → nI (2 ^ m - 1) ||| ((1 : Int32) <<< (nI m &&& 31)) = nI (2 ^ (m + 1) - 1) := by decide +kernel
theorem eb_get (x : Int32) {o : Nat} (ho : o < 20) : ((x >>> (nI o &&& 31)) &&& 1) = if eb_t x o = true then 1 else 0 := by
  apply eb_ext
  intro i hi
  rw [eb_and, eb_sshr o (by omega) x hi, eb_bit1 i hi]
  by_cases e : i = 0
  · subst e
    rw [if_pos (by omega), decide_eq_true rfl, Bool.and_true, Nat.add_zero]
    cases eb_t x o
    · exact (eb_0 0).symm
    · rfl
  · rw [decide_eq_false e, Bool.and_false]
    cases eb_t x o
    · exact (eb_0 i).symm
    · show false = eb_t 1 i
      rw [eb_bit1 i hi, decide_eq_false e]
theorem eb_zand (x : Int32) : 0 &&& x = 0 := by
  apply eb_ext
  intro i _
  rw [eb_and, eb_0, Bool.false_and]
theorem eb_zget {o : Nat} (ho : o < 20) : (((0 : Int32) >>> (nI o &&& 31)) &&& 1) = 0 := by
  rw [eb_get 0 ho, eb_0]
  rfl
theorem eb_or0 (x : Int32) : x ||| 0 = x := by
  apply eb_ext
  intro i _
  rw [eb_or, eb_0, Bool.or_false]
/-! counting -/
def eg_cnt (f : Nat → Bool) : Nat → Nat
  | 0 => 0
  | n + 1 => eg_cnt f n + (if f n = true then 1 else 0)
theorem eg_cnt_le (f : Nat → Bool) (n : Nat) : eg_cnt f n ≤ n := by
  induction n with
  | zero => exact Nat.le_refl 0
  | succ n ih =>
    show eg_cnt f n + (if f n = true then 1 else 0) ≤ n + 1
    split <;> omega
theorem eg_cnt_lt {f : Nat → Bool} {p : Nat} (h : f p = false) : ∀ n, p < n → eg_cnt f n < n := by
  intro n
  induction n with
  | zero => intro z; exact absurd z (by omega)
  | succ n ih =>
    intro hp
    show eg_cnt f n + (if f n = true then 1 else 0) < n + 1
    by_cases e : p = n
    · subst e
      rw [h, if_neg (by decide)]
      have := eg_cnt_le f p
      omega
    · have := ih (by omega)
      split <;> omega
theorem eg_cnt_congr {f g : Nat → Bool} : ∀ n, (∀ i, i < n → f i = g i) → eg_cnt f n = eg_cnt g n := by
  intro n
  induction n with
  | zero => intro _; rfl
  | succ n ih =>
    intro h
    show eg_cnt f n + (if f n = true then 1 else 0) = eg_cnt g n + (if g n = true then 1 else 0)
    rw [ih (fun i hi => h i (by omega)), h n (by omega)]
theorem eg_cnt_up {f g : Nat → Bool} {p : Nat} (hf : f p = false) (hg : g p = true) : ∀ n, p < n → (∀ i, i < n → i ≠ p → g i = f i) → eg_cnt g n = eg_cnt f n + 1 := by
  intro n
  induction n with
  | zero => intro z; exact absurd z (by omega)
  | succ n ih =>
    intro hp h
    show eg_cnt g n + (if g n = true then 1 else 0) = eg_cnt f n + (if f n = true then 1 else 0) + 1
    by_cases e : p = n
    · subst e
      rw [hf, hg, if_pos rfl, if_neg (by decide), eg_cnt_congr (f := g) (g := f) p (fun i hi => h i (by omega) (by omega))]
    · rw [ih (by omega) (fun i hi hn => h i (by omega) hn), h n (by omega) (fun z => e z.symm)]
      omega
theorem eg_cnt_full {f : Nat → Bool} : ∀ n, (∀ i, i < n → f i = true) → eg_cnt f n = n := by
  intro n
  induction n with
  | zero => intro _; rfl
  | succ n ih =>
    intro h
    show eg_cnt f n + (if f n = true then 1 else 0) = n + 1
    rw [ih (fun i hi => h i (by omega)), if_pos (h n (by omega))]
theorem eg_cnt_ext {f g : Nat → Bool} {N : Nat} (h : ∀ i, i < N → f i = g i) : ∀ k, (∀ i, N ≤ i → i < N + k → f i = false) → eg_cnt f (N + k) = eg_cnt g N := by
  intro k
  induction k with
  | zero => intro _; exact eg_cnt_congr N h
  | succ k ih =>
    intro hz
    show eg_cnt f (N + k) + (if f (N + k) = true then 1 else 0) = _
    rw [ih (fun i h1 h2 => hz i h1 (by omega)), hz (N + k) (by omega) (by omega), if_neg (by decide), Nat.add_zero]
theorem eg_cnt_zero {f : Nat → Bool} (n : Nat) (h : ∀ i, i < n → f i = false) : eg_cnt f n = 0 := by
  have := eg_cnt_ext (f := f) (g := f) (N := 0) (fun i hi => absurd hi (by omega)) n (fun i _ h2 => h i (by omega))
  rw [Nat.zero_add] at this
  exact this
/-! a place as it stands in an array: 0 is none, j + 1 is place j of the space that begins at d -/
def eg_e (d : Nat) : Nat → Int32
  | 0 => -1
  | j + 1 => nI (d + j)
theorem eg_nb : ∀ k, k < 128 → (nI k).toInt8.toInt32 = nI k := by decide +kernel
theorem eg_m1b : (-1 : Int32).toInt8.toInt32 = -1 := by decide
theorem eg_eb {d x : Nat} (h : d + x < 128) : (eg_e d x).toInt8.toInt32 = eg_e d x := by
  cases x with
  | zero => exact eg_m1b
  | succ j => exact eg_nb (d + j) (by omega)
theorem eg_vb {k : Nat} (h : k < 128) : vp_nar .byte (nI k) = nI k := by
  rw [vp_nar_byte, eg_nb k h]
theorem eg_veb {d x : Nat} (h : d + x < 128) : vp_nar .byte (eg_e d x) = eg_e d x := by
  rw [vp_nar_byte, eg_eb h]
theorem eg_neg : (-1 : Int32) < 0 := by decide
theorem eg_nneg : ¬ (0 : Int32) ≤ -1 := by decide
theorem eg_elt {d v f : Nat} (hd : d < 1000) (hv : v < 1000) (hf : f < 1000) : eg_e d v < nI (d + f) ↔ ¬ f < v := by
  cases v with
  | zero =>
    have h : (-1 : Int32) < nI (d + f) := by
      rw [Int32.lt_iff_toInt_lt, nI_toInt (by omega)]
      show (-1 : Int) < _
      omega
    exact ⟨fun _ => by omega, fun _ => h⟩
  | succ j =>
    show nI (d + j) < nI (d + f) ↔ _
    rw [nI_ltI (by omega) (by omega)]
    omega
theorem eg_ege {d v : Nat} (hd : d < 1000) (hv : v < 1000) : 0 ≤ eg_e d v ↔ ¬ v = 0 := by
  cases v with
  | zero => exact ⟨fun z => absurd z eg_nneg, fun z => absurd rfl z⟩
  | succ j => exact ⟨fun _ => by omega, fun _ => nI_pos' (by omega)⟩
/-! the two spaces -/
def eg_sp (sp : Int32) (b d : Nat) : Prop := (sp = 0 ∧ b = 0 ∧ d = 20) ∨ (sp = 1 ∧ b = 20 ∧ d = 0)
theorem eg_spd {sp : Int32} {b d : Nat} (h : eg_sp sp b d) (i : Nat) : ((1 - sp) * 20) + nI i = nI (d + i) := by
  rcases h with ⟨rfl, rfl, rfl⟩ | ⟨rfl, rfl, rfl⟩
  · rw [← nI_add]
    rfl
  · rw [← nI_add]
    rfl
theorem eg_spb {sp : Int32} {b d : Nat} (h : eg_sp sp b d) (i : Nat) : (sp * 20) + nI i = nI (b + i) := by
  rcases h with ⟨rfl, rfl, rfl⟩ | ⟨rfl, rfl, rfl⟩
  · rw [← nI_add]
    rfl
  · rw [← nI_add]
    rfl
theorem eg_spx {sp : Int32} {b d : Nat} (h : eg_sp sp b d) : eg_sp (1 - sp) d b := by
  rcases h with ⟨rfl, rfl, rfl⟩ | ⟨rfl, rfl, rfl⟩
  · exact Or.inr ⟨by decide, rfl, rfl⟩
  · exact Or.inl ⟨by decide, rfl, rfl⟩
theorem eg_spn {sp : Int32} {b d : Nat} (h : eg_sp sp b d) : (b = 0 ∧ d = 20) ∨ (b = 20 ∧ d = 0) := by
  rcases h with ⟨_, h⟩ | ⟨_, h⟩
  · exact Or.inl h
  · exact Or.inr h
end
section
/-! the picture of a space, of the copying, and the method copy -/
section
variable (b d N : Nat) (nm kd fa fb : Nat → Nat) (R : Nat → Prop)
/-- x (0: none, i + 1: object i) is none or copied -/
def eg_D (np : Nat → Nat) (x : Nat) : Prop := x ≠ 0 → np (x - 1) ≠ 0
/-- x is none or in R -/
def eg_RF (R : Nat → Prop) (x : Nat) : Prop := x ≠ 0 → R (x - 1)
/-- sizes -/
def eg_G : Prop := N ≤ 20 ∧ ∀ i, i < N → nm i < 20 ∧ kd i < 3 ∧ fa i ≤ N ∧ fb i ≤ N
/-- R is closed under what copying follows -/
def eg_C : Prop := ∀ i, i < N → R i → (kd i = 0 → eg_RF R (fa i)) ∧ (kd i ≠ 2 → eg_RF R (fb i)) ∧ (fa i ≠ 0 → kd i = 2 → eg_RF R (fb i))
/-- the numbers of the copies -/
def eg_P (c : Nat) (np ord : Nat → Nat) : Prop := (∀ i, i < N → np i ≤ c ∧ (np i ≠ 0 → ord (np i - 1) = i ∧ R i)) ∧ (∀ j, j < c → ord j < N ∧ np (ord j) = j + 1) ∧ eg_cnt (fun i => decide (np i ≠ 0)) N = c
/-- the space in use -/
def eg_old (a2 a3 a4 a5 : Nat → Int32) : Prop := ∀ i, i < N → a2 (b + i) = nI (nm i) ∧ a3 (b + i) = nI (kd i) ∧ a4 (b + i) = eg_e b (fa i) ∧ a5 (b + i) = eg_e b (fb i)
/-- the copies -/
def eg_new (c : Nat) (ord : Nat → Nat) (a2 a3 a4 a5 : Nat → Int32) : Prop := ∀ j, j < c → a2 (d + j) = nI (nm (ord j)) ∧ a3 (d + j) = nI (kd (ord j)) ∧ a4 (d + j) = eg_e b (fa (ord j)) ∧ a5 (d + j) = eg_e b (fb (ord j))
def eg_I (c : Nat) (np ord : Nat → Nat) (a2 a3 a4 a5 a6 : Nat → Int32) : Prop := eg_P N R c np ord ∧ eg_old b N nm kd fa fb a2 a3 a4 a5 ∧ eg_new b d nm kd fa fb c ord a2 a3 a4 a5 ∧ ∀ i, i < N → a6 (b + i) = eg_e d (np i)
/-- more was copied, nothing moved -/
def eg_M (c : Nat) (np ord : Nat → Nat) (c' : Nat) (np' ord' : Nat → Nat) : Prop := c ≤ c' ∧ (∀ i, i < N → np i ≠ 0 → np' i = np i) ∧ (∀ j, j < c → ord' j = ord j)
/-- the first k copies are scanned -/
def eg_K (k : Nat) (np ord : Nat → Nat) : Prop := ∀ j, j < k → (kd (ord j) = 0 → eg_D np (fa (ord j))) ∧ (kd (ord j) ≠ 2 → eg_D np (fb (ord j)))
/-- what doesn't change while one copies -/
def eg_X (sp : Int32) : Prop := eg_sp sp b d ∧ eg_G N nm kd fa fb ∧ eg_C N kd fa fb R
end
section
variable {b d N : Nat} {nm kd fa fb : Nat → Nat} {R : Nat → Prop}
theorem eg_D0 {np : Nat → Nat} : eg_D np 0 := fun z => absurd rfl z
theorem eg_RF0 : eg_RF R 0 := fun z => absurd rfl z
theorem eg_cN {c : Nat} {np ord : Nat → Nat} (h : eg_P N R c np ord) : c ≤ N := by
  have := eg_cnt_le (fun i => decide (np i ≠ 0)) N
  rw [h.2.2] at this
  exact this
theorem eg_M_refl {c : Nat} {np ord : Nat → Nat} : eg_M N c np ord c np ord := ⟨Nat.le_refl c, fun _ _ _ => rfl, fun _ _ => rfl⟩
theorem eg_M_trans {c c' c'' : Nat} {np ord np' ord' np'' ord'' : Nat → Nat} (h : eg_M N c np ord c' np' ord') (h' : eg_M N c' np' ord' c'' np'' ord'') : eg_M N c np ord c'' np'' ord'' := by
  refine ⟨Nat.le_trans h.1 h'.1, fun i hi hn => ?_, fun j hj => ?_⟩
  · have e := h.2.1 i hi hn
    rw [h'.2.1 i hi (by rw [e]; exact hn), e]
  · have := h.1
    rw [h'.2.2 j (by omega), h.2.2 j hj]
theorem eg_D_mono {c c' : Nat} {np ord np' ord' : Nat → Nat} {x : Nat} (h : eg_M N c np ord c' np' ord') (hx : x ≤ N) (hD : eg_D np x) : eg_D np' x := by
  intro hn
  rw [h.2.1 (x - 1) (by omega) (hD hn)]
  exact hD hn
theorem eg_K_mono {k c c' : Nat} {np ord np' ord' : Nat → Nat} (hG : eg_G N nm kd fa fb) (hP : eg_P N R c np ord) (h : eg_M N c np ord c' np' ord') (hk : k ≤ c) (hK : eg_K kd fa fb k np ord) : eg_K kd fa fb k np' ord' := by
  intro j hj
  rw [h.2.2 j (by omega)]
  obtain ⟨h1, h2⟩ := hK j hj
  have hg := hG.2 (ord j) (hP.2.1 j (by omega)).1
  exact ⟨fun z => eg_D_mono h hg.2.2.1 (h1 z), fun z => eg_D_mono h hg.2.2.2 (h2 z)⟩
/-- a new copy in the picture -/
theorem eg_P_new {c i : Nat} {np ord : Nat → Nat} (hP : eg_P N R c np ord) (hi : i < N) (h0 : np i = 0) (hR : R i) :
    eg_P N R (c + 1) (fun k => if k = i then c + 1 else np k) (fun j => if j = c then i else ord j) := by
  obtain ⟨p1, p2, p3⟩ := hP
  refine ⟨fun k hk => ?_, fun j hj => ?_, ?_⟩
  · by_cases e : k = i
    · subst e
      dsimp only
      rw [if_pos rfl]
      exact ⟨Nat.le_refl _, fun _ => ⟨if_pos (by omega), hR⟩⟩
    · dsimp only
      rw [if_neg e]
      obtain ⟨q1, q2⟩ := p1 k hk
      exact ⟨by omega, fun hn => ⟨by rw [if_neg (by omega)]; exact (q2 hn).1, (q2 hn).2⟩⟩
  · by_cases e : j = c
    · subst e
      dsimp only
      rw [if_pos rfl, if_pos rfl]
      exact ⟨hi, rfl⟩
    · obtain ⟨q1, q2⟩ := p2 j (by omega)
      dsimp only
      rw [if_neg e]
      refine ⟨q1, ?_⟩
      rw [if_neg]
      · exact q2
      · intro z
        rw [z, h0] at q2
        exact absurd q2 (by omega)
  · rw [eg_cnt_up (f := fun i => decide (np i ≠ 0)) (p := i) (decide_eq_false (fun z => z h0)) (decide_eq_true (by dsimp only; rw [if_pos rfl]; omega)) N hi (fun k hk hn => by simp only [if_neg hn]), p3]
theorem eg_cLt {c i : Nat} {np ord : Nat → Nat} (hP : eg_P N R c np ord) (hi : i < N) (h0 : np i = 0) : c < N := by
  have := eg_cnt_lt (f := fun i => decide (np i ≠ 0)) (p := i) (decide_eq_false (fun z => z h0)) N hi
  rw [hP.2.2] at this
  exact this
theorem eg_I_new {sp : Int32} {c i : Nat} {np ord : Nat → Nat} {a2 a3 a4 a5 a6 : Nat → Int32} (hX : eg_X b d N nm kd fa fb R sp) (hI : eg_I b d N nm kd fa fb R c np ord a2 a3 a4 a5 a6) (hi : i < N) (h0 : np i = 0) (hR : R i) :
    eg_I b d N nm kd fa fb R (c + 1) (fun k => if k = i then c + 1 else np k) (fun j => if j = c then i else ord j) (upd a2 (d + c) (nI (nm i))) (upd a3 (d + c) (nI (kd i))) (upd a4 (d + c) (eg_e b (fa i))) (upd a5 (d + c) (eg_e b (fb i))) (upd a6 (b + i) (nI (d + c))) := by
  obtain ⟨hP, hO, hW, h6⟩ := hI
  have hc := eg_cLt hP hi h0
  have hN := hX.2.1.1
  have hs := eg_spn hX.1
  refine ⟨eg_P_new hP hi h0 hR, fun k hk => ?_, fun j hj => ?_, fun k hk => ?_⟩
  · have e : b + k ≠ d + c := by omega
    rw [pk_un e, pk_un e, pk_un e, pk_un e]
    exact hO k hk
  · by_cases e : j = c
    · subst e
      dsimp only
      rw [if_pos rfl, pk_us, pk_us, pk_us, pk_us]
      exact ⟨rfl, rfl, rfl, rfl⟩
    · have e' : d + j ≠ d + c := by omega
      dsimp only
      rw [if_neg e, pk_un e', pk_un e', pk_un e', pk_un e']
      exact hW j (by omega)
  · by_cases e : k = i
    · subst e
      dsimp only
      rw [if_pos rfl, pk_us]
      rfl
    · dsimp only
      rw [if_neg e, pk_un (by omega)]
      exact h6 k hk
theorem eg_M_new {c i : Nat} {np ord : Nat → Nat} (h0 : np i = 0) : eg_M N c np ord (c + 1) (fun k => if k = i then c + 1 else np k) (fun j => if j = c then i else ord j) := by
  refine ⟨by omega, fun k hk hn => ?_, fun j hj => ?_⟩
  · dsimp only
    rw [if_neg (fun z => hn (by rw [z]; exact h0))]
  · dsimp only
    rw [if_neg (by omega)]
/-- copy -/
theorem eg_copy {post : St2 → Prop} {pr wa sp us sc qs p : Int32} {a1 a2 a3 a4 a5 a6 a7 a8 : Nat → Int32} {c x : Nat} {np ord : Nat → Nat}
    (hX : eg_X b d N nm kd fa fb R sp) (hI : eg_I b d N nm kd fa fb R c np ord a2 a3 a4 a5 a6) (hx : x ≤ N) (hR : eg_RF R x) (hp : p = eg_e b x)
    (H : ∀ c' np' ord' a2' a3' a4' a5' a6', eg_I b d N nm kd fa fb R c' np' ord' a2' a3' a4' a5' a6' → eg_M N c np ord c' np' ord' → eg_D np' x → post (pr, wa, sp, us, nI c', sc, qs, a1, a2', a3', a4', a5', a6', a7, a8)) :
    wpX_copy post (pr, wa, sp, us, nI c, sc, qs, a1, a2, a3, a4, a5, a6, a7, a8) p := by
  cases x with
  | zero => exact br_t (by rw [hp]; exact eg_neg) (H c np ord a2 a3 a4 a5 a6 hI eg_M_refl eg_D0)
  | succ i =>
    have hi : i < N := hx
    have hR' : R i := hR (by omega)
    have hs := eg_spn hX.1
    have hN := hX.2.1.1
    have hp' : p = nI (b + i) := hp
    subst hp'
    obtain ⟨g1, g2, g3, g4⟩ := hX.2.1.2 i hi
    obtain ⟨o2, o3, o4, o5⟩ := hI.2.1 i hi
    have o6 := hI.2.2.2 i hi
    have inb : vp_in (nI (b + i)) 40 := vp_in_nI (by omega) (by omega)
    unfold wpX_copy
    dsimp only
    rw [nI_clamp (show b + i < 2 ^ 31 by omega)]
    refine br_f (nI_pos (by omega)) ⟨inb, ?_⟩
    by_cases h0 : np i = 0
    · have hc := eg_cLt hI.1 hi h0
      have inc : vp_in (nI (d + c)) 40 := vp_in_nI (by omega) (by omega)
      refine br_t (by rw [o6, h0]; exact eg_neg) (nm_r (eg_spd hX.1 c) (nm_r (nI_1 c) ?_))
      rw [nI_clamp (show d + c < 2 ^ 31 by omega), eg_nb (d + c) (by omega), o2, o3, o4, o5, eg_vb (show nm i < 128 by omega), eg_vb (show kd i < 128 by omega), eg_veb (show b + fa i < 128 by omega), eg_veb (show b + fb i < 128 by omega)]
      refine ⟨inb, nm_e ⟨inb, inc, nm_e ⟨inb, inc, nm_e ⟨inb, inc, nm_e ⟨inb, inc, nm_e ?_⟩⟩⟩⟩⟩
      exact H _ _ _ _ _ _ _ _ (eg_I_new hX hI hi h0 hR') (eg_M_new h0) (fun _ => by
        show (if i + 1 - 1 = i then c + 1 else np (i + 1 - 1)) ≠ 0
        rw [if_pos (by omega)]
        omega)
    · have hb := (hI.1.1 i hi).1
      have hcN := eg_cN hI.1
      refine br_f ?_ (H c np ord a2 a3 a4 a5 a6 hI eg_M_refl (fun _ => h0))
      rw [o6]
      obtain ⟨j, hj⟩ : ∃ j, np i = j + 1 := ⟨np i - 1, by omega⟩
      rw [hj]
      exact nI_pos (by omega)
/-- isCopied: only a field that is one can be copied -/
theorem eg_isC {post : Int32 → Prop} {pr wa sp us cp sc qs p : Int32} {a1 a2 a3 a4 a5 a6 a7 a8 : Nat → Int32} {x : Nat} (hb : b ≤ 20) (hN : N ≤ 20) (hx : x ≤ N) (hp : p = eg_e b x) (H0 : post 0) (H1 : x ≠ 0 → post 1) :
    wpX_isCopied post (pr, wa, sp, us, cp, sc, qs, a1, a2, a3, a4, a5, a6, a7, a8) p := by
  cases x with
  | zero => exact br_t (by rw [hp]; exact eg_neg) H0
  | succ i =>
    have hp' : p = nI (b + i) := hp
    subst hp'
    exact br_f (nI_pos (by omega)) ⟨vp_in_nI (by omega) (by omega), br_c (fun _ => H0) (fun _ => H1 (by omega))⟩
end
end
section
/-! lookAtPairs and spread -/
section
variable {b d N : Nat} {nm kd fa fb : Nat → Nat} {R : Nat → Prop}
theorem eg_pairs {post : St2 → Prop} {pr wa sp us qs : Int32} {a1 a7 a8 : Nat → Int32} {k : Nat} (hX : eg_X b d N nm kd fa fb R sp) :
    ∀ (m x1 c : Nat) (np ord : Nat → Nat) (a2 a3 a4 a5 a6 : Nat → Int32), x1 + m = k → k ≤ c → eg_I b d N nm kd fa fb R c np ord a2 a3 a4 a5 a6 →
    (∀ c' np' ord' a2' a3' a4' a5' a6', eg_I b d N nm kd fa fb R c' np' ord' a2' a3' a4' a5' a6' → eg_M N c np ord c' np' ord' → post (pr, wa, sp, us, nI c', nI k, qs, a1, a2', a3', a4', a5', a6', a7, a8)) →
    wX_lookAtPairs_2 post (m + 1) (nI x1) pr wa sp us (nI c) (nI k) qs a1 a2 a3 a4 a5 a6 a7 a8 := by
  have hs := eg_spn hX.1
  have hN := hX.2.1.1
  intro m
  induction m with
  | zero =>
    intro x1 c np ord a2 a3 a4 a5 a6 hk hkc hI H
    have hcN := eg_cN hI.1
    exact pk_le k x1 (fun _ => H c np ord a2 a3 a4 a5 a6 hI eg_M_refl) (fun z => absurd z (by omega))
  | succ m ih =>
    intro x1 c np ord a2 a3 a4 a5 a6 hk hkc hI H
    have hcN := eg_cN hI.1
    have inx : vp_in (nI (d + x1)) 40 := vp_in_nI (by omega) (by omega)
    refine pk_le k x1 (fun z => absurd z (by omega)) (fun _ => nm_r (eg_spd hX.1 x1) ?_)
    obtain ⟨w2, w3, w4, w5⟩ := hI.2.2.1 x1 (by omega)
    have hoN := (hI.1.2.1 x1 (by omega)).1
    obtain ⟨g1, g2, g3, g4⟩ := hX.2.1.2 (ord x1) hoN
    have hRo : R (ord x1) := by
      have e := (hI.1.2.1 x1 (by omega)).2
      exact ((hI.1.1 (ord x1) hoN).2 (by omega)).2
    rw [nI_clamp (show d + x1 < 2 ^ 31 by omega), w3]
    refine ⟨inx, pk_eq (kd (ord x1)) 2 (fun h2 => ⟨inx, ?_⟩) (fun _ => nm_r (nI_1 x1) (ih (x1 + 1) c np ord a2 a3 a4 a5 a6 (by omega) hkc hI H))⟩
    refine eg_isC (b := b) (N := N) (by omega) hN g3 w4 (br_t rfl (nm_r (nI_1 x1) (ih (x1 + 1) c np ord a2 a3 a4 a5 a6 (by omega) hkc hI H))) (fun hf => br_f (by decide) ⟨inx, ?_⟩)
    refine eg_copy hX hI g4 ((hX.2.2 (ord x1) hoN hRo).2.2 hf h2) w5 (fun c' np' ord' a2' a3' a4' a5' a6' hI' hM' _ => nm_r (nI_1 x1) ?_)
    have hcc := hM'.1
    exact ih (x1 + 1) c' np' ord' a2' a3' a4' a5' a6' (by omega) (by omega) hI' (fun c'' np'' ord'' a2'' a3'' a4'' a5'' a6'' hI'' hM'' => H c'' np'' ord'' a2'' a3'' a4'' a5'' a6'' hI'' (eg_M_trans hM' hM''))
/-- the second half of a scan: field B -/
theorem eg_78 {post : St2 → Prop} {J4 : Int32 → Int32 → Int32 → Int32 → Int32 → Int32 → Int32 → Int32 → Int32 → (Nat → Int32) → (Nat → Int32) → (Nat → Int32) → (Nat → Int32) → (Nat → Int32) → (Nat → Int32) → (Nat → Int32) → (Nat → Int32) → Prop} {J23 : Int32 → Int32 → Int32 → Int32 → Int32 → Int32 → Int32 → (Nat → Int32) → (Nat → Int32) → (Nat → Int32) → (Nat → Int32) → (Nat → Int32) → (Nat → Int32) → (Nat → Int32) → (Nat → Int32) → Prop}
    {y1 y2 pr wa sp us sc qs : Int32} {a1 a2 a3 a4 a5 a6 a7 a8 : Nat → Int32} {k c : Nat} {np ord : Nat → Nat} (hX : eg_X b d N nm kd fa fb R sp) (hk : k < c) (hI : eg_I b d N nm kd fa fb R c np ord a2 a3 a4 a5 a6)
    (H : ∀ c' np' ord' a2' a3' a4' a5' a6', eg_I b d N nm kd fa fb R c' np' ord' a2' a3' a4' a5' a6' → eg_M N c np ord c' np' ord' → (kd (ord k) ≠ 2 → eg_D np' (fb (ord k))) → J23 pr wa sp us (nI c') sc qs a1 a2' a3' a4' a5' a6' a7 a8) :
    wX_spread_78 post J4 J23 y1 y2 (nI (d + k)) pr wa sp us (nI c) sc qs a1 a2 a3 a4 a5 a6 a7 a8 := by
  have hs := eg_spn hX.1
  have hN := hX.2.1.1
  have hcN := eg_cN hI.1
  have inx : vp_in (nI (d + k)) 40 := vp_in_nI (by omega) (by omega)
  obtain ⟨w2, w3, w4, w5⟩ := hI.2.2.1 k hk
  have hoN := (hI.1.2.1 k hk).1
  obtain ⟨g1, g2, g3, g4⟩ := hX.2.1.2 (ord k) hoN
  have hRo : R (ord k) := by
    have e := (hI.1.2.1 k hk).2
    exact ((hI.1.1 (ord k) hoN).2 (by omega)).2
  unfold wX_spread_78
  rw [nI_clamp (show d + k < 2 ^ 31 by omega), w3]
  refine ⟨inx, pk_eq (kd (ord k)) 2 (fun h2 => H c np ord a2 a3 a4 a5 a6 hI eg_M_refl (fun z => absurd h2 z)) (fun h2 => ⟨inx, ?_⟩)⟩
  exact eg_copy hX hI g4 ((hX.2.2 (ord k) hoN hRo).2.1 h2) w5 (fun c' np' ord' a2' a3' a4' a5' a6' hI' hM' hD' => H c' np' ord' a2' a3' a4' a5' a6' hI' hM' (fun _ => hD'))
/-- all is scanned: the pairs -/
theorem eg_23x {J4 : Int32 → Int32 → Int32 → Int32 → Int32 → Int32 → Int32 → Int32 → Int32 → (Nat → Int32) → (Nat → Int32) → (Nat → Int32) → (Nat → Int32) → (Nat → Int32) → (Nat → Int32) → (Nat → Int32) → (Nat → Int32) → Prop}
    {y1 y2 pr wa sp us qs : Int32} {a1 a2 a3 a4 a5 a6 a7 a8 : Nat → Int32} {c : Nat} {np ord : Nat → Nat} (hX : eg_X b d N nm kd fa fb R sp) (hI : eg_I b d N nm kd fa fb R c np ord a2 a3 a4 a5 a6)
    (H : ∀ c' np' ord' a2' a3' a4' a5' a6', eg_I b d N nm kd fa fb R c' np' ord' a2' a3' a4' a5' a6' → eg_M N c np ord c' np' ord' → J4 y1 (y2 + 1) pr wa sp us (nI c') (nI c) qs a1 a2' a3' a4' a5' a6' a7 a8) :
    wpX_lookAtPairs (fun u => match u with | (f0_present_5, f0_watchedSet_6, f0_space_7, f0_used_8, f0_copied_9, f0_scanned_10, f0_queueSize_11, am1021_14, am1022_17, am1023_20, am1024_23, am1025_26, am1026_29, am1027_32, am1028_35) => (∀ x2_36 : Int32, x2_36 = y2 + 1 → (J4 y1 x2_36 f0_present_5 f0_watchedSet_6 f0_space_7 f0_used_8 f0_copied_9 f0_scanned_10 f0_queueSize_11 am1021_14 am1022_17 am1023_20 am1024_23 am1025_26 am1026_29 am1027_32 am1028_35))) (pr, wa, sp, us, nI c, nI c, qs, a1, a2, a3, a4, a5, a6, a7, a8) :=
  ⟨c + 1, eg_pairs (k := c) hX c 0 c np ord a2 a3 a4 a5 a6 (by omega) (Nat.le_refl c) hI (fun c' np' ord' a2' a3' a4' a5' a6' hI' hM' => nm_e (H c' np' ord' a2' a3' a4' a5' a6' hI' hM'))⟩
/-- the inner loop of spread -/
theorem eg_23 {post : St2 → Prop} {J4 : Int32 → Int32 → Int32 → Int32 → Int32 → Int32 → Int32 → Int32 → Int32 → (Nat → Int32) → (Nat → Int32) → (Nat → Int32) → (Nat → Int32) → (Nat → Int32) → (Nat → Int32) → (Nat → Int32) → (Nat → Int32) → Prop}
    {y1 y2 pr wa sp us qs : Int32} {a1 a7 a8 : Nat → Int32} (hX : eg_X b d N nm kd fa fb R sp) :
    ∀ (m k c : Nat) (np ord : Nat → Nat) (a2 a3 a4 a5 a6 : Nat → Int32), k + m = N → k ≤ c → eg_I b d N nm kd fa fb R c np ord a2 a3 a4 a5 a6 → eg_K kd fa fb k np ord →
    (∀ c1 c' np' ord' a2' a3' a4' a5' a6', c ≤ c1 → c1 ≤ c' → eg_I b d N nm kd fa fb R c' np' ord' a2' a3' a4' a5' a6' → eg_M N c np ord c' np' ord' → eg_K kd fa fb c1 np' ord' → J4 y1 (y2 + 1) pr wa sp us (nI c') (nI c1) qs a1 a2' a3' a4' a5' a6' a7 a8) →
    wX_spread_23 post J4 y1 y2 (m + 1) pr wa sp us (nI c) (nI k) qs a1 a2 a3 a4 a5 a6 a7 a8 := by
  have hs := eg_spn hX.1
  have hN := hX.2.1.1
  intro m
  induction m with
  | zero =>
    intro k c np ord a2 a3 a4 a5 a6 hk hkc hI hK H
    have hcN := eg_cN hI.1
    refine pk_le c k (fun z => ?_) (fun z => absurd z (by omega))
    have e : k = c := by omega
    subst e
    exact eg_23x hX hI (fun c' np' ord' a2' a3' a4' a5' a6' hI' hM' => H k c' np' ord' a2' a3' a4' a5' a6' (by omega) hM'.1 hI' hM' (eg_K_mono hX.2.1 hI.1 hM' (Nat.le_refl k) hK))
  | succ m ih =>
    intro k c np ord a2 a3 a4 a5 a6 hk hkc hI hK H
    have hcN := eg_cN hI.1
    refine pk_le c k (fun z => ?_) (fun z => ?_)
    · have e : k = c := by omega
      subst e
      exact eg_23x hX hI (fun c' np' ord' a2' a3' a4' a5' a6' hI' hM' => H k c' np' ord' a2' a3' a4' a5' a6' (by omega) hM'.1 hI' hM' (eg_K_mono hX.2.1 hI.1 hM' (Nat.le_refl k) hK))
    · have inx : vp_in (nI (d + k)) 40 := vp_in_nI (by omega) (by omega)
      obtain ⟨w2, w3, w4, w5⟩ := hI.2.2.1 k z
      have hoN := (hI.1.2.1 k z).1
      obtain ⟨g1, g2, g3, g4⟩ := hX.2.1.2 (ord k) hoN
      have hRo : R (ord k) := by
        have e := (hI.1.2.1 k z).2
        exact ((hI.1.1 (ord k) hoN).2 (by omega)).2
      refine nm_r (eg_spd hX.1 k) (nm_r (nI_1 k) ?_)
      rw [nI_clamp (show d + k < 2 ^ 31 by omega), w3]
      -- behind field A: c1 copied, field A done if it is to be done
      have rest : ∀ c1 np1 ord1 b2 b3 b4 b5 b6, eg_I b d N nm kd fa fb R c1 np1 ord1 b2 b3 b4 b5 b6 → eg_M N c np ord c1 np1 ord1 → (kd (ord k) = 0 → eg_D np1 (fa (ord k))) →
          wX_spread_78 post J4 (wX_spread_23 post J4 y1 y2 (m + 1)) y1 y2 (nI (d + k)) pr wa sp us (nI c1) (nI (k + 1)) qs a1 b2 b3 b4 b5 b6 a7 a8 := by
        intro c1 np1 ord1 b2 b3 b4 b5 b6 hI1 hM1 hD1
        have hcc := hM1.1
        have eo : ord1 k = ord k := hM1.2.2 k z
        refine eg_78 hX (show k < c1 by omega) hI1 (fun c2 np2 ord2 e2 e3 e4 e5 e6 hI2 hM2 hD2 => ?_)
        have hcc2 := hM2.1
        have hM := eg_M_trans hM1 hM2
        have eo2 : ord2 k = ord k := hM.2.2 k z
        refine ih (k + 1) c2 np2 ord2 e2 e3 e4 e5 e6 (by omega) (by omega) hI2 (lt_s (eg_K_mono hX.2.1 hI.1 hM (by omega) hK) ?_) (fun c3 c' np' ord' a2' a3' a4' a5' a6' h1 h2 hI' hM' hK' => H c3 c' np' ord' a2' a3' a4' a5' a6' (by omega) h2 hI' (eg_M_trans hM hM') hK')
        show (kd (ord2 k) = 0 → eg_D np2 (fa (ord2 k))) ∧ (kd (ord2 k) ≠ 2 → eg_D np2 (fb (ord2 k)))
        rw [eo2]
        rw [eo] at hD2
        exact ⟨fun h0 => eg_D_mono hM2 g3 (hD1 h0), hD2⟩
      refine ⟨inx, pk_eq (kd (ord k)) 0 (fun h0 => ⟨inx, ?_⟩) (fun h0 => rest c np ord a2 a3 a4 a5 a6 hI eg_M_refl (fun h => absurd h h0))⟩
      exact eg_copy hX hI g3 ((hX.2.2 (ord k) hoN hRo).1 h0) w4 (fun c' np' ord' a2' a3' a4' a5' a6' hI' hM' hD' => rest c' np' ord' a2' a3' a4' a5' a6' hI' hM' (fun _ => hD'))
/-- the outer loop: r rounds, before is none or what was copied ahead of the last round -/
theorem eg_4 {post : St2 → Prop} {pr wa sp us qs : Int32} {a1 a7 a8 : Nat → Int32} (hX : eg_X b d N nm kd fa fb R sp) :
    ∀ (m r k c : Nat) (bf : Int32) (np ord : Nat → Nat) (a2 a3 a4 a5 a6 : Nat → Int32), r + m = 21 → (r = 0 ∧ bf = -1 ∨ ∃ q, bf = nI q ∧ r ≤ q + 1 ∧ q ≤ k) → k ≤ c → eg_I b d N nm kd fa fb R c np ord a2 a3 a4 a5 a6 → eg_K kd fa fb k np ord →
    (∀ c' np' ord' a2' a3' a4' a5' a6', eg_I b d N nm kd fa fb R c' np' ord' a2' a3' a4' a5' a6' → eg_M N c np ord c' np' ord' → eg_K kd fa fb c' np' ord' → post (pr, wa, sp, us, nI c', nI c', qs, a1, a2', a3', a4', a5', a6', a7, a8)) →
    wX_spread_4 post (m + 1) bf (nI r) pr wa sp us (nI c) (nI k) qs a1 a2 a3 a4 a5 a6 a7 a8 := by
  have hN := hX.2.1.1
  intro m
  induction m with
  | zero =>
    intro r k c bf np ord a2 a3 a4 a5 a6 hr hb hkc hI hK H
    have hcN := eg_cN hI.1
    refine pk_lt 20 r (fun _ => ?_) (fun z => absurd z (by omega))
    have e : k = c := by
      rcases hb with ⟨h, _⟩ | ⟨q, _, h1, h2⟩ <;> omega
    subst e
    exact H k np ord a2 a3 a4 a5 a6 hI eg_M_refl hK
  | succ m ih =>
    intro r k c bf np ord a2 a3 a4 a5 a6 hr hb hkc hI hK H
    have hcN := eg_cN hI.1
    refine pk_lt 20 r (fun z => absurd z (by omega)) (fun _ => ?_)
    have go : r ≤ c → ∃ fu23 : Nat, wX_spread_23 post (wX_spread_4 post (m + 1)) (nI c) (nI r) fu23 pr wa sp us (nI c) (nI k) qs a1 a2 a3 a4 a5 a6 a7 a8 := by
      intro hrc
      refine ⟨N - k + 1, eg_23 hX (N - k) k c np ord a2 a3 a4 a5 a6 (by omega) hkc hI hK (fun c1 c' np' ord' a2' a3' a4' a5' a6' h1 h2 hI' hM' hK' => ?_)⟩
      rw [nI_1 r]
      exact ih (r + 1) c1 c' (nI c) np' ord' a2' a3' a4' a5' a6' (by omega) (Or.inr ⟨c, rfl, by omega, h1⟩) h2 hI' hK' (fun c'' np'' ord'' a2'' a3'' a4'' a5'' a6'' hI'' hM'' hK'' => H c'' np'' ord'' a2'' a3'' a4'' a5'' a6'' hI'' (eg_M_trans hM' hM'') hK'')
    rcases hb with ⟨h, hbf⟩ | ⟨q, hbf, h1, h2⟩
    · refine br_f ?_ (go (by omega))
      rw [hbf]
      intro z
      have h0 := nI_pos (n := c) (by omega)
      rw [← z] at h0
      exact h0 eg_neg
    · refine pk_eq q c (fun e => ?_) (fun e => go (by omega)) hbf
      have e : k = c := by omega
      subst e
      exact H k np ord a2 a3 a4 a5 a6 hI eg_M_refl hK
theorem eg_spread {post : St2 → Prop} {pr wa sp us qs : Int32} {a1 a2 a3 a4 a5 a6 a7 a8 : Nat → Int32} {k c : Nat} {np ord : Nat → Nat} (hX : eg_X b d N nm kd fa fb R sp) (hkc : k ≤ c) (hI : eg_I b d N nm kd fa fb R c np ord a2 a3 a4 a5 a6) (hK : eg_K kd fa fb k np ord)
    (H : ∀ c' np' ord' a2' a3' a4' a5' a6', eg_I b d N nm kd fa fb R c' np' ord' a2' a3' a4' a5' a6' → eg_M N c np ord c' np' ord' → eg_K kd fa fb c' np' ord' → post (pr, wa, sp, us, nI c', nI c', qs, a1, a2', a3', a4', a5', a6', a7, a8)) :
    wpX_spread post (pr, wa, sp, us, nI c, nI k, qs, a1, a2, a3, a4, a5, a6, a7, a8) :=
  ⟨22, eg_4 hX 21 0 k c (-1) np ord a2 a3 a4 a5 a6 (by omega) (Or.inl ⟨rfl, rfl⟩) hkc hI hK H⟩
end
end
section
/-! copyLiving, living, alive -/
section
variable {b d N : Nat} {nm kd fa fb rt : Nat → Nat} {R : Nat → Prop}
/-- the roots -/
def eg_T (b N : Nat) (rt : Nat → Nat) (a7 : Nat → Int32) : Prop := ∀ r, r < 4 → a7 r = eg_e b (rt r) ∧ rt r ≤ N
/-- the set of the numbers that copies ahead of the k-th have -/
def eg_S (nm : Nat → Nat) (k : Nat) (ord : Nat → Nat) (s : Int32) : Prop := ∀ o, o < 32 → (eb_t s o = true ↔ ∃ j, j < k ∧ nm (ord j) = o)
theorem eg_33 {post : St2 → Prop} {pr wa sp us : Int32} {a1 a7 a8 : Nat → Int32} (hX : eg_X b d N nm kd fa fb R sp) (hT : eg_T b N rt a7) (hRT : ∀ r, r < 4 → eg_RF R (rt r)) :
    ∀ (m r c : Nat) (np ord : Nat → Nat) (a2 a3 a4 a5 a6 : Nat → Int32), r + m = 4 → eg_I b d N nm kd fa fb R c np ord a2 a3 a4 a5 a6 → (∀ q, q < r → eg_D np (rt q)) →
    (∀ c' np' ord' a2' a3' a4' a5' a6', eg_I b d N nm kd fa fb R c' np' ord' a2' a3' a4' a5' a6' → eg_K kd fa fb c' np' ord' → (∀ q, q < 4 → eg_D np' (rt q)) → post (pr, wa, sp, us, nI c', nI c', 0, a1, a2', a3', a4', a5', a6', a7, a8)) →
    wX_copyLiving_33 post (m + 1) (nI r) pr wa sp us (nI c) 0 0 a1 a2 a3 a4 a5 a6 a7 a8 := by
  intro m
  induction m with
  | zero =>
    intro r c np ord a2 a3 a4 a5 a6 hr hI hD H
    refine pk_le 4 r (fun _ => ⟨1, br_t (by decide) ?_⟩) (fun z => absurd z (by omega))
    refine eg_spread (k := 0) hX (Nat.zero_le c) hI (fun j hj => absurd hj (by omega)) (fun c' np' ord' a2' a3' a4' a5' a6' hI' hM' hK' => ?_)
    exact H c' np' ord' a2' a3' a4' a5' a6' hI' hK' (fun q hq => eg_D_mono hM' (hT q hq).2 (hD q (by omega)))
  | succ m ih =>
    intro r c np ord a2 a3 a4 a5 a6 hr hI hD H
    refine pk_le 4 r (fun z => absurd z (by omega)) (fun hr4 => ⟨vp_in_nI hr4 (by omega), ?_⟩)
    rw [nI_clamp (show r < 2 ^ 31 by omega)]
    refine eg_copy hX hI (hT r hr4).2 (hRT r hr4) (hT r hr4).1 (fun c' np' ord' a2' a3' a4' a5' a6' hI' hM' hD' => nm_r (nI_1 r) ?_)
    exact ih (r + 1) c' np' ord' a2' a3' a4' a5' a6' (by omega) hI' (lt_s (fun q hq => eg_D_mono hM' (hT q (by omega)).2 (hD q hq)) hD') H
theorem eg_P0 : eg_P N R 0 (fun _ => 0) (fun _ => 0) :=
  ⟨fun _ _ => ⟨Nat.le_refl 0, fun z => absurd rfl z⟩, fun j hj => absurd hj (by omega), eg_cnt_zero N (fun _ _ => decide_eq_false (fun z => z rfl))⟩
theorem eg_cl2 {post : St2 → Prop} {pr wa sp us cp sc : Int32} {a1 a2 a3 a4 a5 a7 a8 : Nat → Int32} (hX : eg_X b d N nm kd fa fb R sp) (hO : eg_old b N nm kd fa fb a2 a3 a4 a5) (hT : eg_T b N rt a7) (hRT : ∀ r, r < 4 → eg_RF R (rt r))
    (H : ∀ c' np' ord' a2' a3' a4' a5' a6', eg_I b d N nm kd fa fb R c' np' ord' a2' a3' a4' a5' a6' → eg_K kd fa fb c' np' ord' → (∀ q, q < 4 → eg_D np' (rt q)) → post (pr, wa, sp, us, nI c', nI c', 0, a1, a2', a3', a4', a5', a6', a7, a8)) :
    ∀ (m i : Nat) (a6 : Nat → Int32), i + m = 40 → (∀ q, q < i → a6 q = -1) → wX_copyLiving_2 post pr wa sp us cp sc 0 (m + 1) (nI i) a1 a2 a3 a4 a5 a6 a7 a8 := by
  have hs := eg_spn hX.1
  have hN := hX.2.1.1
  intro m
  induction m with
  | zero =>
    intro i a6 hi h6
    refine pk_le 40 i (fun _ => ⟨5, ?_⟩) (fun z => absurd z (by omega))
    exact eg_33 hX hT hRT 4 0 0 (fun _ => 0) (fun _ => 0) a2 a3 a4 a5 a6 (by omega) ⟨eg_P0, hO, fun j hj => absurd hj (by omega), fun k hk => h6 (b + k) (by omega)⟩ (fun q hq => absurd hq (by omega)) H
  | succ m ih =>
    intro i a6 hi h6
    refine pk_le 40 i (fun z => absurd z (by omega)) (fun h => ⟨vp_in_nI h (by omega), ?_⟩)
    rw [nI_clamp (show i < 2 ^ 31 by omega)]
    refine nm_e (nm_r (nI_1 i) (ih (i + 1) _ (by omega) (lt_s (fun q hq => ?_) pk_us)))
    rw [pk_un (by omega)]
    exact h6 q hq
theorem eg_copyLiving {post : St2 → Prop} {pr wa sp us cp sc : Int32} {a1 a2 a3 a4 a5 a6 a7 a8 : Nat → Int32} (hX : eg_X b d N nm kd fa fb R sp) (hO : eg_old b N nm kd fa fb a2 a3 a4 a5) (hT : eg_T b N rt a7) (hRT : ∀ r, r < 4 → eg_RF R (rt r))
    (H : ∀ c' np' ord' a2' a3' a4' a5' a6', eg_I b d N nm kd fa fb R c' np' ord' a2' a3' a4' a5' a6' → eg_K kd fa fb c' np' ord' → (∀ q, q < 4 → eg_D np' (rt q)) → post (pr, wa, sp, us, nI c', nI c', 0, a1, a2', a3', a4', a5', a6', a7, a8)) :
    wpX_copyLiving post (pr, wa, sp, us, cp, sc, 0, a1, a2, a3, a4, a5, a6, a7, a8) :=
  ⟨41, eg_cl2 hX hO hT hRT H 40 0 a6 (by omega) (fun q hq => absurd hq (by omega))⟩
theorem eg_S0 {ord : Nat → Nat} : eg_S nm 0 ord 0 := fun o _ => by
  rw [eb_0]
  exact ⟨fun z => absurd z (by decide), fun ⟨j, hj, _⟩ => absurd hj (by omega)⟩
theorem eg_S1 {ord : Nat → Nat} {s : Int32} {k : Nat} (h : eg_S nm k ord s) (hn : nm (ord k) < 20) : eg_S nm (k + 1) ord (s ||| ((1 : Int32) <<< (nI (nm (ord k)) &&& 31))) := fun o ho => by
  rw [eb_or, eb_one _ hn o ho, Bool.or_eq_true, decide_eq_true_iff, h o ho]
  constructor
  · rintro (⟨j, hj, e⟩ | e)
    · exact ⟨j, by omega, e⟩
    · exact ⟨k, by omega, e.symm⟩
  · rintro ⟨j, hj, e⟩
    by_cases hjk : j = k
    · subst hjk
      exact Or.inr e.symm
    · exact Or.inl ⟨j, by omega, e⟩
theorem eg_l8 {post : Int32 → St2 → Prop} {pr wa sp us sc qs : Int32} {a1 a2 a3 a4 a5 a6 a7 a8 : Nat → Int32} {c : Nat} {np ord : Nat → Nat} (hX : eg_X b d N nm kd fa fb R sp) (hI : eg_I b d N nm kd fa fb R c np ord a2 a3 a4 a5 a6)
    (H : ∀ s, eg_S nm c ord s → post s (pr, wa, sp, us, nI c, sc, qs, a1, a2, a3, a4, a5, a6, a7, a8)) :
    ∀ (m i : Nat) (s : Int32), i + m = c → eg_S nm i ord s → wX_living_8 post pr wa sp us (nI c) sc qs a1 a2 a3 a4 a5 a6 a7 a8 (m + 1) s (nI i) := by
  have hs := eg_spn hX.1
  have hN := hX.2.1.1
  have hcN := eg_cN hI.1
  intro m
  induction m with
  | zero =>
    intro i s hi hS
    have e : i = c := by omega
    subst e
    exact pk_le i i (fun _ => H s hS) (fun z => absurd z (by omega))
  | succ m ih =>
    intro i s hi hS
    obtain ⟨w2, w3, w4, w5⟩ := hI.2.2.1 i (by omega)
    have hg := (hX.2.1.2 (ord i) (hI.1.2.1 i (by omega)).1).1
    refine pk_le c i (fun z => absurd z (by omega)) (fun _ => ?_)
    rw [eg_spd hX.1 i, nI_clamp (show d + i < 2 ^ 31 by omega), w2]
    exact ⟨vp_in_nI (by omega) (by omega), nm_e (nm_r (nI_1 i) (ih (i + 1) _ (by omega) (eg_S1 hS hg)))⟩
theorem eg_alive {post : Int32 → St2 → Prop} {pr wa sp us cp sc : Int32} {a1 a2 a3 a4 a5 a6 a7 a8 : Nat → Int32} (hX : eg_X b d N nm kd fa fb R sp) (hO : eg_old b N nm kd fa fb a2 a3 a4 a5) (hT : eg_T b N rt a7) (hRT : ∀ r, r < 4 → eg_RF R (rt r))
    (H : ∀ s c' np' ord' a2' a3' a4' a5' a6', eg_S nm c' ord' s → eg_I b d N nm kd fa fb R c' np' ord' a2' a3' a4' a5' a6' → eg_K kd fa fb c' np' ord' → (∀ q, q < 4 → eg_D np' (rt q)) → post s (pr, wa, sp, us, nI c', nI c', 0, a1, a2', a3', a4', a5', a6', a7, a8)) :
    wpX_alive post (pr, wa, sp, us, cp, sc, 0, a1, a2, a3, a4, a5, a6, a7, a8) := by
  unfold wpX_alive
  dsimp only
  unfold wpX_living
  dsimp only
  refine eg_copyLiving hX hO hT hRT (fun c' np' ord' a2' a3' a4' a5' a6' hI' hK' hD' => ⟨c' + 1, ?_⟩)
  exact eg_l8 hX hI' (fun s hS => H s c' np' ord' a2' a3' a4' a5' a6' hS hI' hK' hD') c' 0 0 (by omega) eg_S0
end
end
section
/-! rescue, mend, ones, clean -/
section
variable {b d N : Nat} {nm kd fa fb rt : Nat → Nat} {R : Nat → Prop}
theorem eg_hasAny {post : Int32 → Prop} {u : St2} {p : Int32} (H0 : post 0) (H1 : post 1) : wpX_has post u p := by
  obtain ⟨pr, wa, sp, us, cp, sc, qs, a1, a2, a3, a4, a5, a6, a7, a8⟩ := u
  exact br_c (fun _ => H0) (fun _ => br_c (fun _ => H0) (fun _ => br_c (fun _ => H0) (fun _ => H1)))
/-- nothing is watched, the queue is empty: rescue only spreads again -/
theorem eg_rescue {post : St2 → Prop} {pr sp us cp sc : Int32} {a1 a2 a3 a4 a5 a6 a7 a8 : Nat → Int32} (H : ∀ Q : St2 → Prop, (∀ u, post u → Q u) → wpX_spread Q (pr, 0, sp, us, cp, sc, 0, a1, a2, a3, a4, a5, a6, a7, a8)) :
    wpX_rescue post (pr, 0, sp, us, cp, sc, 0, a1, a2, a3, a4, a5, a6, a7, a8) := by
  have main : ∀ (m i : Nat), i + m = 20 → wX_rescue_2 post pr sp us cp sc (m + 1) (nI i) 0 0 a1 a2 a3 a4 a5 a6 a7 a8 := by
    intro m
    induction m with
    | zero =>
      intro i hi
      refine pk_le 20 i (fun _ => ⟨1, br_t (by decide) ?_⟩) (fun z => absurd z (by omega))
      exact H _ (fun ⟨_, _, _, _, _, _, _, _, _, _, _, _, _, _, _⟩ h => h)
    | succ m ih =>
      intro i hi
      refine pk_le 20 i (fun z => absurd z (by omega)) (fun hi2 => ?_)
      have nx : wX_rescue_44 post (wX_rescue_2 post pr sp us cp sc (m + 1)) (nI i) pr 0 sp us cp sc 0 a1 a2 a3 a4 a5 a6 a7 a8 := br_t rfl (nm_r (nI_1 i) (ih (i + 1) (by omega)))
      exact eg_hasAny (br_t rfl nx) (br_f (by decide) (br_t (eb_zget hi2) nx))
  exact ⟨21, main 20 0 (by omega)⟩
/-! mend -/
def eg_mv (np : Nat → Nat) : Nat → Nat
  | 0 => 0
  | i + 1 => np i
def eg_ma (f : Nat) (np : Nat → Nat) (k x : Nat) : Nat := if k = 1 ∧ f < eg_mv np x then 0 else eg_mv np x
def eg_mb (f : Nat) (np : Nat → Nat) (k x y : Nat) : Nat := if k = 2 ∧ eg_ma f np k x = 0 then 0 else eg_mv np y
theorem eg_mv_le {c x : Nat} {np ord : Nat → Nat} (hP : eg_P N R c np ord) (hx : x ≤ N) : eg_mv np x ≤ c := by
  cases x with
  | zero => exact Nat.zero_le c
  | succ i => exact (hP.1 i hx).1
theorem eg_ma_le {f c k x : Nat} {np ord : Nat → Nat} (hP : eg_P N R c np ord) (hx : x ≤ N) : eg_ma f np k x ≤ c := by
  unfold eg_ma
  split
  · exact Nat.zero_le c
  · exact eg_mv_le hP hx
theorem eg_mb_le {f c k x y : Nat} {np ord : Nat → Nat} (hP : eg_P N R c np ord) (hy : y ≤ N) : eg_mb f np k x y ≤ c := by
  unfold eg_mb
  split
  · exact Nat.zero_le c
  · exact eg_mv_le hP hy
theorem eg_moved {post : Int32 → Prop} {pr wa sp us cp sc qs p : Int32} {a1 a2 a3 a4 a5 a6 a7 a8 : Nat → Int32} {x : Nat} {np : Nat → Nat} (hb : b ≤ 20) (hN : N ≤ 20) (h6 : ∀ i, i < N → a6 (b + i) = eg_e d (np i)) (hx : x ≤ N) (hp : p = eg_e b x) (H : post (eg_e d (eg_mv np x))) :
    wpX_moved post (pr, wa, sp, us, cp, sc, qs, a1, a2, a3, a4, a5, a6, a7, a8) p := by
  cases x with
  | zero => exact br_f (by rw [hp]; exact eg_nneg) H
  | succ i =>
    have hp' : p = nI (b + i) := hp
    subst hp'
    refine br_t (nI_pos' (by omega)) ⟨vp_in_nI (by omega) (by omega), ?_⟩
    rw [nI_clamp (by omega), h6 i hx]
    exact H
theorem eg_mend {post : St2 → Prop} {pr wa sp us sc qs : Int32} {a1 a2 a3 a6 a7 a8 : Nat → Int32} {c f : Nat} {np ord : Nat → Nat} (hX : eg_X b d N nm kd fa fb R sp) (hP : eg_P N R c np ord) (hf : f ≤ 20) (h3 : ∀ j, j < c → a3 (d + j) = nI (kd (ord j))) (h6 : ∀ i, i < N → a6 (b + i) = eg_e d (np i))
    (H : ∀ a4 a5 : Nat → Int32, (∀ j, j < c → a4 (d + j) = eg_e d (eg_ma f np (kd (ord j)) (fa (ord j))) ∧ a5 (d + j) = eg_e d (eg_mb f np (kd (ord j)) (fa (ord j)) (fb (ord j)))) → post (pr, wa, sp, us, nI c, sc, qs, a1, a2, a3, a4, a5, a6, a7, a8)) :
    ∀ (m i : Nat) (a4 a5 : Nat → Int32), i + m = c → (∀ j, j < i → a4 (d + j) = eg_e d (eg_ma f np (kd (ord j)) (fa (ord j))) ∧ a5 (d + j) = eg_e d (eg_mb f np (kd (ord j)) (fa (ord j)) (fb (ord j)))) →
    (∀ j, i ≤ j → j < c → a4 (d + j) = eg_e b (fa (ord j)) ∧ a5 (d + j) = eg_e b (fb (ord j))) → wX_mend_14 post (nI (d + f)) pr wa sp us (nI c) sc qs (m + 1) (nI i) a1 a2 a3 a4 a5 a6 a7 a8 := by
  have hs := eg_spn hX.1
  have hN := hX.2.1.1
  have hcN := eg_cN hP
  intro m
  induction m with
  | zero =>
    intro i a4 a5 hi h1 h2
    have e : i = c := by omega
    subst e
    exact pk_le i i (fun _ => H a4 a5 h1) (fun z => absurd z (by omega))
  | succ m ih =>
    intro i a4 a5 hi h1 h2
    obtain ⟨q4, q5⟩ := h2 i (Nat.le_refl i) (by omega)
    have hoN := (hP.2.1 i (by omega)).1
    obtain ⟨g1, g2, g3, g4⟩ := hX.2.1.2 (ord i) hoN
    have inx : vp_in (nI (d + i)) 40 := vp_in_nI (by omega) (by omega)
    have la := eg_mv_le hP g3
    have lb := eg_mv_le hP g4
    refine pk_le c i (fun z => absurd z (by omega)) (fun _ => nm_r (eg_spd hX.1 i) ⟨inx, ?_⟩)
    rw [nI_clamp (show d + i < 2 ^ 31 by omega), h3 i (by omega)]
    -- the stores
    have st : ∀ x y : Nat, x = eg_ma f np (kd (ord i)) (fa (ord i)) → y = eg_mb f np (kd (ord i)) (fa (ord i)) (fb (ord i)) →
        wX_mend_100 post (wX_mend_14 post (nI (d + f)) pr wa sp us (nI c) sc qs (m + 1)) (nI (d + f)) (nI i) (nI (d + i)) (eg_e d x) (eg_e d y) pr wa sp us (nI c) sc qs a1 a2 a3 a4 a5 a6 a7 a8 := by
      intro x y ex ey
      have lx : x ≤ c := by rw [ex]; exact eg_ma_le hP g3
      have ly : y ≤ c := by rw [ey]; exact eg_mb_le hP g4
      unfold wX_mend_100
      rw [nI_clamp (show d + i < 2 ^ 31 by omega), eg_eb (show d + x < 128 by omega), eg_eb (show d + y < 128 by omega)]
      refine ⟨inx, nm_e ⟨inx, nm_e (nm_r (nI_1 i) (ih (i + 1) _ _ (by omega) (fun j hj => ?_) (fun j hj hjc => ?_)))⟩⟩
      · by_cases e : j = i
        · subst e
          rw [pk_us, pk_us, ex, ey]
          exact ⟨rfl, rfl⟩
        · rw [pk_un (by omega), pk_un (by omega)]
          exact h1 j (by omega)
      · rw [pk_un (by omega), pk_un (by omega)]
        exact h2 j (by omega) hjc
    -- behind the weak ones
    have rest : wX_mend_81 post (wX_mend_14 post (nI (d + f)) pr wa sp us (nI c) sc qs (m + 1)) (nI (d + f)) (nI i) (nI (d + i)) (eg_e d (eg_ma f np (kd (ord i)) (fa (ord i)))) (eg_e d (eg_mv np (fb (ord i)))) pr wa sp us (nI c) sc qs a1 a2 a3 a4 a5 a6 a7 a8 := by
      have lm := eg_ma_le (f := f) (k := kd (ord i)) hP g3
      unfold wX_mend_81
      rw [nI_clamp (show d + i < 2 ^ 31 by omega), h3 i (by omega)]
      refine ⟨inx, pk_eq (kd (ord i)) 2 (fun e2 => ek_if (eg_ege (by omega) (by omega)) (fun e => ?_) (fun e => ?_)) (fun e2 => ?_)⟩
      · exact st _ _ rfl (by unfold eg_mb; rw [if_neg (fun z => e z.2)])
      · exact st _ 0 rfl (by unfold eg_mb; rw [if_pos ⟨e2, Decidable.of_not_not e⟩])
      · exact st _ _ rfl (by unfold eg_mb; rw [if_neg (fun z => e2 z.1)])
    refine eg_moved (b := b) (d := d) (N := N) (np := np) (by omega) hN h6 g3 q4 ⟨inx, ?_⟩
    refine eg_moved (b := b) (d := d) (N := N) (np := np) (by omega) hN h6 g4 q5 ⟨inx, ?_⟩
    refine pk_eq (kd (ord i)) 1 (fun e1 => ek_if (eg_elt (by omega) (by omega) (by omega)) (fun e => ?_) (fun e => ?_)) (fun e1 => ?_)
    · have t := rest
      unfold eg_ma at t
      rw [if_neg (fun z => e z.2)] at t
      exact t
    · have t := rest
      unfold eg_ma at t
      rw [if_pos ⟨e1, Decidable.of_not_not e⟩] at t
      exact t
    · have t := rest
      unfold eg_ma at t
      rw [if_neg (fun z => e1 z.1)] at t
      exact t
/-! ones -/
theorem eg_ones {post : Int32 → Prop} {x : Int32} (H : post (nI (eg_cnt (eb_t x) 20))) : wpX_ones post () x := by
  have main : ∀ (m i : Nat), i + m = 20 → wX_ones_4 post x (m + 1) (nI (eg_cnt (eb_t x) i)) (nI i) := by
    intro m
    induction m with
    | zero =>
      intro i hi
      have e : i = 20 := by omega
      subst e
      exact pk_le 20 20 (fun _ => H) (fun z => absurd z (by omega))
    | succ m ih =>
      intro i hi
      refine pk_le 20 i (fun z => absurd z (by omega)) (fun hi2 => nm_r ?_ (nm_r (nI_1 i) (ih (i + 1) (by omega))))
      rw [eb_get x hi2]
      show _ = nI (eg_cnt (eb_t x) i + (if eb_t x i = true then 1 else 0))
      rw [← nI_add]
      cases eb_t x i <;> rfl
  exact ⟨21, main 20 0 (by omega)⟩
/-! the end of clean -/
theorem eg_81 {post : Int32 → St2 → Prop} {x2 sp' sc qs : Int32} {a2 a3 a4 a5 a6 a7 a8 : Nat → Int32} {c : Nat} {ord : Nat → Nat} (hsp : eg_sp sp' d b) (hc : c ≤ 20) (hn : ∀ j, j < c → nm (ord j) < 20) (h2 : ∀ j, j < c → a2 (d + j) = nI (nm (ord j)))
    (H : ∀ (pr : Int32) (a1 : Nat → Int32), eg_S nm c ord pr → post (x2 - nI c) (pr, 0, sp', nI c, nI c, sc, qs, a1, a2, a3, a4, a5, a6, a7, a8)) :
    ∀ (m i : Nat) (pr : Int32) (a1 : Nat → Int32), i + m = c → eg_S nm i ord pr → wX_clean_81 post x2 0 sp' (nI c) (nI c) sc qs (m + 1) (nI i) pr a1 a2 a3 a4 a5 a6 a7 a8 := by
  have hs := eg_spn hsp
  intro m
  induction m with
  | zero =>
    intro i pr a1 hi hS
    have e : i = c := by omega
    subst e
    exact pk_le i i (fun _ => nm_r (eb_zand pr) (H pr a1 hS)) (fun z => absurd z (by omega))
  | succ m ih =>
    intro i pr a1 hi hS
    have inx : vp_in (nI (d + i)) 40 := vp_in_nI (by omega) (by omega)
    have hni := hn i (by omega)
    refine pk_le c i (fun z => absurd z (by omega)) (fun _ => nm_r (eg_spb hsp i) ⟨inx, ?_⟩)
    rw [nI_clamp (show d + i < 2 ^ 31 by omega), h2 i (by omega)]
    exact nm_e ⟨inx, vp_in_nI hni (by omega), nm_e (nm_r (nI_1 i) (ih (i + 1) _ _ (by omega) (eg_S1 hS hni)))⟩
theorem eg_28 {post : Int32 → St2 → Prop} {x2 pr sp us sc qs : Int32} {a1 a2 a3 a4 a5 a6 a8 : Nat → Int32} {c : Nat} {np ord : Nat → Nat} (hX : eg_X b d N nm kd fa fb R sp) (hP : eg_P N R c np ord) (hrt : ∀ r, r < 4 → rt r ≤ N) (h2 : ∀ j, j < c → a2 (d + j) = nI (nm (ord j))) (h6 : ∀ i, i < N → a6 (b + i) = eg_e d (np i))
    (H : ∀ (pr : Int32) (a1 a7 : Nat → Int32), eg_S nm c ord pr → eg_T d c (fun r => eg_mv np (rt r)) a7 → post (x2 - nI c) (pr, 0, 1 - sp, nI c, nI c, sc, qs, a1, a2, a3, a4, a5, a6, a7, a8)) :
    ∀ (m r : Nat) (a7 : Nat → Int32), r + m = 4 → (∀ q, q < r → a7 q = eg_e d (eg_mv np (rt q))) → (∀ q, r ≤ q → q < 4 → a7 q = eg_e b (rt q)) → wX_clean_28 post x2 pr 0 sp us (nI c) sc qs (m + 1) (nI r) a1 a2 a3 a4 a5 a6 a7 a8 := by
  have hs := eg_spn hX.1
  have hN := hX.2.1.1
  have hcN := eg_cN hP
  intro m
  induction m with
  | zero =>
    intro r a7 hr h7 h7'
    refine pk_le 4 r (fun _ => nm_e ⟨c + 1, ?_⟩) (fun z => absurd z (by omega))
    exact eg_81 (nm := nm) (b := b) (d := d) (ord := ord) (eg_spx hX.1) (by omega) (fun j hj => (hX.2.1.2 (ord j) (hP.2.1 j hj).1).1) h2 (fun pr' a1' hS => H pr' a1' a7 hS (fun q hq => ⟨h7 q (by omega), eg_mv_le hP (hrt q hq)⟩)) c 0 0 a1 (by omega) eg_S0
  | succ m ih =>
    intro r a7 hr h7 h7'
    refine pk_le 4 r (fun z => absurd z (by omega)) (fun hr4 => ⟨vp_in_nI hr4 (by omega), ?_⟩)
    rw [nI_clamp (show r < 2 ^ 31 by omega)]
    have lr := eg_mv_le hP (hrt r hr4)
    refine eg_moved (b := b) (d := d) (N := N) (np := np) (by omega) hN h6 (hrt r hr4) (h7' r (Nat.le_refl r) hr4) ⟨vp_in_nI hr4 (by omega), ?_⟩
    rw [eg_eb (show d + eg_mv np (rt r) < 128 by omega)]
    refine nm_e (nm_r (nI_1 r) (ih (r + 1) _ (by omega) (lt_s (fun q hq => ?_) pk_us) (fun q hq hq4 => ?_)))
    · rw [pk_un (by omega)]
      exact h7 q hq
    · rw [pk_un (by omega)]
      exact h7' q (by omega) hq4
/-- clean: the living ones stand in the other space -/
theorem eg_clean {post : Int32 → St2 → Prop} {pr sp us cp sc : Int32} {a1 a2 a3 a4 a5 a6 a7 a8 : Nat → Int32} (hX : eg_X b d N nm kd fa fb R sp) (hO : eg_old b N nm kd fa fb a2 a3 a4 a5) (hT : eg_T b N rt a7) (hRT : ∀ r, r < 4 → eg_RF R (rt r))
    (H : ∀ (f c : Nat) (np ord : Nat → Nat) (pr' : Int32) (a1' a2' a3' a4' a5' a6' a7' : Nat → Int32), eg_P N R c np ord → eg_K kd fa fb c np ord → (∀ q, q < 4 → eg_D np (rt q)) → eg_S nm c ord pr' →
      eg_old d c (fun j => nm (ord j)) (fun j => kd (ord j)) (fun j => eg_ma f np (kd (ord j)) (fa (ord j))) (fun j => eg_mb f np (kd (ord j)) (fa (ord j)) (fb (ord j))) a2' a3' a4' a5' → eg_T d c (fun r => eg_mv np (rt r)) a7' →
      post (nI (eg_cnt (eb_t pr) 20) - nI c) (pr', 0, 1 - sp, nI c, nI c, nI c, 0, a1', a2', a3', a4', a5', a6', a7', a8)) :
    wpX_clean post (pr, 0, sp, us, cp, sc, 0, a1, a2, a3, a4, a5, a6, a7, a8) := by
  have hN := hX.2.1.1
  unfold wpX_clean
  dsimp only
  refine eg_copyLiving hX hO hT hRT (fun f np0 ord0 b2 b3 b4 b5 b6 hI0 hK0 hD0 => ?_)
  have hfN := eg_cN hI0.1
  refine eg_rescue (fun Q hQ => eg_spread hX (Nat.le_refl f) hI0 hK0 (fun c np ord e2 e3 e4 e5 e6 hI hM hK => hQ _ ?_))
  have w := hI.2.2.1
  refine nm_r (eg_spd hX.1 f) ⟨c + 1, ?_⟩
  refine eg_mend hX hI.1 (by omega) (fun j hj => (w j hj).2.1) hI.2.2.2 (fun a4' a5' h45 => ?_) c 0 e4 e5 (by omega) (fun j hj => absurd hj (by omega)) (fun j _ hj => (w j hj).2.2)
  refine eg_ones ⟨5, ?_⟩
  refine eg_28 (nm := nm) (rt := rt) hX hI.1 (fun r hr => (hT r hr).2) (fun j hj => (w j hj).1) hI.2.2.2 (fun pr' a1' a7' hS hT' => ?_) 4 0 a7 (by omega) (fun q hq => absurd hq (by omega)) (fun q _ hq => (hT q hq).1)
  exact H f c np ord pr' a1' e2 e3 a4' a5' e6 a7' hI.1 hK (fun q hq => eg_D_mono hM (hT q hq).2 (hD0 q hq)) hS (fun j hj => ⟨(w j hj).1, (w j hj).2.1, (h45 j hj).1, (h45 j hj).2⟩) hT'
end
end
section
/-! has, make, point, root, the constructor -/
theorem el_c1 : (1 : Int32).toNatClampNeg = 1 := by decide
theorem el_e0 (o : Nat) : eg_e 0 (o + 1) = nI o := by
  show nI (0 + o) = nI o
  rw [Nat.zero_add]
theorem el_nm1 {o : Nat} (h : o < 2 ^ 31) : ¬ nI o = -1 := by
  intro z
  have h0 := nI_pos h
  rw [z] at h0
  exact h0 eg_neg
theorem el_has1 {post : Int32 → Prop} {pr wa sp us cp sc qs : Int32} {a1 a2 a3 a4 a5 a6 a7 a8 : Nat → Int32} {o : Nat} (ho : o < 20) (h : eb_t pr o = true) (H : post 1) : wpX_has post (pr, wa, sp, us, cp, sc, qs, a1, a2, a3, a4, a5, a6, a7, a8) (nI o) :=
  br_f (nI_pos (by omega)) (br_f (nI_ge (b := 20) ho (by decide)) (br_f (by rw [eb_get pr ho, h]; decide) H))
theorem el_has0 {post : Int32 → Prop} {pr wa sp us cp sc qs : Int32} {a1 a2 a3 a4 a5 a6 a7 a8 : Nat → Int32} {o : Nat} (ho : o < 20) (h : eb_t pr o = false) (H : post 0) : wpX_has post (pr, wa, sp, us, cp, sc, qs, a1, a2, a3, a4, a5, a6, a7, a8) (nI o) :=
  br_f (nI_pos (by omega)) (br_f (nI_ge (b := 20) ho (by decide)) (br_t (by rw [eb_get pr ho, h]; decide) H))
theorem el_isRoot {post : Int32 → Prop} {r : Nat} (hr : r < 4) (H : post 1) : wpX_isRoot post () (nI r) :=
  br_f (nI_pos (by omega)) (br_f (nI_ge (b := 4) hr (by decide)) H)
/-- make: k objects are there, the next is number k -/
theorem el_make {post : Int32 → St2 → Prop} {cp sc qs : Int32} {a1 a2 a3 a4 a5 a6 a7 a8 : Nat → Int32} {k t : Nat} (hk : k < 8) (ht : t < 3)
    (H : post (nI k) (nI (2 ^ (k + 1) - 1), 0, 0, nI (k + 1), cp, sc, qs, upd a1 k (nI k), upd a2 k (nI k), upd a3 k (nI t), upd a4 k (-1), upd a5 k (-1), a6, upd a7 1 (nI k), a8)) :
    wpX_make post (nI (2 ^ k - 1), 0, 0, nI k, cp, sc, qs, a1, a2, a3, a4, a5, a6, a7, a8) (nI t) 1 := by
  have main : ∀ (m o : Nat), o + m = k → wX_make_20 post (nI t) 1 (nI (2 ^ k - 1)) 0 0 (nI k) cp sc qs a1 a2 a3 a4 a5 a6 a7 a8 (m + 1) (nI o) := by
    intro m
    induction m with
    | zero =>
      intro o ho
      have e : o = k := by omega
      subst e
      have ink : vp_in (nI o) 40 := vp_in_nI (by omega) (by omega)
      refine pk_le 20 o (fun z => absurd z (by omega)) (fun _ => el_has0 (by omega) (by rw [eb_all o (by omega) o (by omega)]; exact decide_eq_false (by omega)) (br_t rfl ?_))
      refine nm_r (e' := nI o) (by rw [eg_spb (Or.inl ⟨rfl, rfl, rfl⟩ : eg_sp 0 0 20) o, Nat.zero_add]) (nm_r (nI_1 o) (nm_r (eb_more o hk) (nm_r (eb_zand _) ?_)))
      rw [nI_clamp (show o < 2 ^ 31 by omega), eg_nb o (by omega), eg_nb t (by omega), el_c1]
      exact ⟨vp_in_nI (by omega) (by omega), nm_e ⟨ink, nm_e ⟨ink, nm_e ⟨ink, nm_e ⟨ink, nm_e ⟨pk_in 1 4 (by omega), nm_e H⟩⟩⟩⟩⟩⟩
    | succ m ih =>
      intro o ho
      exact pk_le 20 o (fun z => absurd z (by omega)) (fun _ => el_has1 (by omega) (by rw [eb_all k (by omega) o (by omega)]; exact decide_eq_true (by omega)) (br_f (by decide) (nm_r (nI_1 o) (ih (o + 1) (by omega)))))
  exact br_f (nI_pos (by omega)) (pk_lt 2 t (fun z => absurd z (by omega)) (fun _ => el_isRoot (r := 1) (by omega) (br_f (by decide) ⟨k + 1, main k 0 (by omega)⟩)))
theorem el_place {post : Int32 → Prop} {pr wa sp us cp sc qs : Int32} {a1 a2 a3 a4 a5 a6 a7 a8 : Nat → Int32} {k x : Nat} (hk : k < 9) (h1 : ∀ i, i < k → a1 i = nI i) (hx : x ≤ k) (H : post (eg_e 0 x)) :
    wpX_placeFor post (pr, wa, sp, us, cp, sc, qs, a1, a2, a3, a4, a5, a6, a7, a8) (eg_e 0 x) := by
  cases x with
  | zero => exact br_t rfl H
  | succ o =>
    rw [el_e0] at H ⊢
    refine br_f (el_nm1 (by omega)) ⟨vp_in_nI (by omega) (by omega), ?_⟩
    rw [nI_clamp (by omega), h1 o hx]
    exact H
/-- point: field w of object q becomes object q + 1 -/
theorem el_point {post : Int32 → St2 → Prop} {sp us cp sc qs : Int32} {a1 a2 a3 a4 a5 a6 a7 a8 : Nat → Int32} {k q w : Nat} (hk : k < 9) (hq : q + 1 < k) (hw : w < 2) (h1 : ∀ i, i < k → a1 i = nI i)
    (H0 : w = 0 → post 1 (nI (2 ^ k - 1), 0, sp, us, cp, sc, qs, a1, a2, a3, upd a4 q (nI (q + 1)), a5, a6, a7, a8)) (H1 : w ≠ 0 → post 1 (nI (2 ^ k - 1), 0, sp, us, cp, sc, qs, a1, a2, a3, a4, upd a5 q (nI (q + 1)), a6, a7, a8)) :
    wpX_point post (nI (2 ^ k - 1), 0, sp, us, cp, sc, qs, a1, a2, a3, a4, a5, a6, a7, a8) (nI q) (nI w) (nI (q + 1)) := by
  unfold wpX_point
  dsimp only
  have inq : vp_in (nI q) 40 := vp_in_nI (by omega) (by omega)
  have inq' : vp_in (nI q) 20 := vp_in_nI (by omega) (by omega)
  refine el_has1 (by omega) (by rw [eb_all k hk q (by omega)]; exact decide_eq_true (by omega)) (br_f (by decide) (br_f (el_nm1 (by omega)) ?_))
  refine el_has1 (by omega) (by rw [eb_all k hk (q + 1) (by omega)]; exact decide_eq_true (by omega)) (br_f (by decide) ?_)
  have pl : ∀ P : Int32 → Prop, P (nI (q + 1)) → wpX_placeFor P (nI (2 ^ k - 1), 0, sp, us, cp, sc, qs, a1, a2, a3, a4, a5, a6, a7, a8) (nI (q + 1)) := by
    intro P h
    have t := el_place (post := P) (pr := nI (2 ^ k - 1)) (wa := 0) (sp := sp) (us := us) (cp := cp) (sc := sc) (qs := qs) (a2 := a2) (a3 := a3) (a4 := a4) (a5 := a5) (a6 := a6) (a7 := a7) (a8 := a8) (x := q + 2) hk h1 (by omega) (by rw [el_e0]; exact h)
    rw [el_e0] at t
    exact t
  unfold wX_point_21
  rw [nI_clamp (show q < 2 ^ 31 by omega), h1 q (by omega), nI_clamp (show q < 2 ^ 31 by omega)]
  refine br_f (nI_pos (by omega)) (pk_le w 1 (fun _ => pk_eq w 0 (fun e => ⟨inq', pl _ ⟨inq, ?_⟩⟩) (fun e => ⟨inq', pl _ ⟨inq, ?_⟩⟩)) (fun z => absurd z (by omega)))
  · rw [eg_nb (q + 1) (by omega)]
    exact nm_e (H0 e)
  · rw [eg_nb (q + 1) (by omega)]
    exact nm_e (H1 e)
/-- root -/
theorem el_root {post : Int32 → St2 → Prop} {sp us cp sc qs p : Int32} {a1 a2 a3 a4 a5 a6 a7 a8 : Nat → Int32} {k r x : Nat} (hk : k < 9) (hr : r < 4) (hx : x ≤ k) (hp : p = eg_e 0 x) (h1 : ∀ i, i < k → a1 i = nI i)
    (H : post 1 (nI (2 ^ k - 1), 0, sp, us, cp, sc, qs, a1, a2, a3, a4, a5, a6, upd a7 r (eg_e 0 x), a8)) :
    wpX_root post (nI (2 ^ k - 1), 0, sp, us, cp, sc, qs, a1, a2, a3, a4, a5, a6, a7, a8) (nI r) p := by
  subst hp
  have en : wX_root_22 post (nI r) (eg_e 0 x) (nI (2 ^ k - 1)) 0 sp us cp sc qs a1 a2 a3 a4 a5 a6 a7 a8 := by
    unfold wX_root_22
    refine el_place hk h1 hx ⟨vp_in_nI hr (by omega), ?_⟩
    rw [nI_clamp (by omega), eg_eb (by omega)]
    exact nm_e H
  unfold wpX_root
  dsimp only
  refine el_isRoot hr (br_f (by decide) ?_)
  cases x with
  | zero => exact br_t rfl en
  | succ o =>
    rw [el_e0] at en ⊢
    exact br_f (el_nm1 (by omega)) (el_has1 (by omega) (by rw [eb_all k hk o (by omega)]; exact decide_eq_true (by omega)) (br_f (by decide) en))
/-- the constructor -/
theorem el_init {post : St2 → Prop} (H : ∀ a7 : Nat → Int32, (∀ q, q < 4 → a7 q = -1) → post (0, 0, 0, 0, 0, 0, 0, (fun _ => 0), (fun _ => 0), (fun _ => 0), (fun _ => 0), (fun _ => 0), (fun _ => 0), a7, (fun _ => 0))) : wpX_init post 8 244 (0, 0, 0, 0, 0, 0, 0) := by
  have main : ∀ (m r : Nat) (a7 : Nat → Int32), r + m = 4 → (∀ q, q < r → a7 q = -1) → wX_init_69 post 8 244 8 244 0 0 0 0 0 0 0 (m + 1) (nI r) (fun _ => 0) (fun _ => 0) (fun _ => 0) (fun _ => 0) (fun _ => 0) (fun _ => 0) a7 (fun _ => 0) := by
    intro m
    induction m with
    | zero =>
      intro r a7 hr h
      exact pk_le 4 r (fun _ => H a7 (fun q hq => h q (by omega))) (fun z => absurd z (by omega))
    | succ m ih =>
      intro r a7 hr h
      refine pk_le 4 r (fun z => absurd z (by omega)) (fun hr4 => ⟨vp_in_nI hr4 (by omega), ?_⟩)
      rw [nI_clamp (show r < 2 ^ 31 by omega)]
      refine nm_e (nm_r (nI_1 r) (ih (r + 1) _ (by omega) (lt_s (fun q hq => ?_) pk_us)))
      rw [pk_un (by omega)]
      exact h q hq
  unfold wpX_init
  dsimp only
  refine ⟨by decide, by decide, by decide, by decide, by decide, by decide, by decide, by decide, by decide, by decide, by decide, by decide, by decide, by decide, by decide, by decide, 5, ?_⟩
  exact main 4 0 (fun _ => 0) (by omega) (fun q hq => absurd hq (by omega))
end
section
/-! the chain: object i points to i + 1 by field w i -/
def el_fa (w : Nat → Nat) (k i : Nat) : Nat := if i + 1 < k ∧ w i = 0 then i + 2 else 0
def el_fb (w : Nat → Nat) (k i : Nat) : Nat := if i + 1 < k ∧ w i ≠ 0 then i + 2 else 0
/-- i keeps i + 1 alive -/
def el_st (kd w : Nat → Nat) (i : Nat) : Prop := kd i = 0 ∨ (kd i = 1 ∧ w i = 1)
/-- the living ones -/
def el_R (n last : Nat) (E : Prop) (i : Nat) : Prop := i ≤ last ∨ (E ∧ i + 1 = n)
/-- the chain as it stands at the end of the law's loop, and its roots -/
def el_Z (n last : Nat) (E : Prop) (kd w rt : Nat → Nat) : Prop := n < 9 ∧ last < n ∧ (∀ j, j < last → el_st kd w j) ∧ (last + 1 = n ∨ ¬ el_st kd w last) ∧ (∀ i, kd i < 3) ∧ (∀ i, w i < 2) ∧ rt 0 = 1 ∧ (E → rt 1 = n) ∧ (¬ E → rt 1 = 0) ∧ rt 2 = 0 ∧ rt 3 = 0
section
variable {n last : Nat} {E : Prop} {kd w rt : Nat → Nat}
theorem el_fa1 {k i : Nat} (h : i + 1 < k) (hw : w i = 0) : el_fa w k i = i + 2 := if_pos ⟨h, hw⟩
theorem el_fb1 {k i : Nat} (h : i + 1 < k) (hw : w i ≠ 0) : el_fb w k i = i + 2 := if_pos ⟨h, hw⟩
theorem el_fan {k i : Nat} (h : el_fa w k i ≠ 0) : i + 1 < k ∧ w i = 0 ∧ el_fa w k i = i + 2 := by
  by_cases e : i + 1 < k ∧ w i = 0
  · exact ⟨e.1, e.2, if_pos e⟩
  · exact absurd (if_neg e) h
theorem el_fbn {k i : Nat} (h : el_fb w k i ≠ 0) : i + 1 < k ∧ w i ≠ 0 ∧ el_fb w k i = i + 2 := by
  by_cases e : i + 1 < k ∧ w i ≠ 0
  · exact ⟨e.1, e.2, if_pos e⟩
  · exact absurd (if_neg e) h
theorem el_fale {k i : Nat} : el_fa w k i ≤ k := by
  unfold el_fa
  split <;> omega
theorem el_fble {k i : Nat} : el_fb w k i ≤ k := by
  unfold el_fb
  split <;> omega
theorem el_next (hZ : el_Z n last E kd w rt) {i : Nat} (hi : el_R n last E i) (hn : i + 1 < n) (hs : el_st kd w i) : el_R n last E (i + 1) := by
  obtain ⟨_, hl, _, h4, _⟩ := hZ
  rcases hi with h | ⟨_, h⟩
  · by_cases e : i = last
    · subst e
      rcases h4 with h4 | h4
      · exact absurd h4 (by omega)
      · exact absurd hs h4
    · exact Or.inl (by omega)
  · exact absurd h (by omega)
theorem el_X (hZ : el_Z n last E kd w rt) : eg_X 0 20 n (fun i => i) kd (el_fa w n) (el_fb w n) (el_R n last E) 0 := by
  obtain ⟨hn, hl, h3, h4, h5, h6, r0, r1, r1', r2, r3⟩ := id hZ
  refine ⟨Or.inl ⟨rfl, rfl, rfl⟩, ⟨by omega, fun i hi => ⟨by show i < 20; omega, h5 i, el_fale, el_fble⟩⟩, fun i hi hR => ⟨fun hk hf => ?_, fun hk hf => ?_, fun hf hk hf' => ?_⟩⟩
  · obtain ⟨q1, q2, q3⟩ := el_fan hf
    rw [q3]
    exact el_next hZ hR q1 (Or.inl hk)
  · obtain ⟨q1, q2, q3⟩ := el_fbn hf
    rw [q3]
    have := h5 i
    have := h6 i
    refine el_next hZ hR q1 ?_
    by_cases e : kd i = 0
    · exact Or.inl e
    · exact Or.inr ⟨by omega, by omega⟩
  · exact absurd (el_fan hf).2.1 (el_fbn hf').2.1
theorem el_RT (hZ : el_Z n last E kd w rt) : ∀ r, r < 4 → eg_RF (el_R n last E) (rt r) := by
  obtain ⟨hn, hl, h3, h4, h5, h6, r0, r1, r1', r2, r3⟩ := hZ
  intro r hr hz
  have hr4 : r = 0 ∨ r = 1 ∨ r = 2 ∨ r = 3 := by omega
  rcases hr4 with e | e | e | e
  · subst e
    rw [r0]
    exact Or.inl (Nat.zero_le last)
  · subst e
    by_cases hE : E
    · rw [r1 hE]
      exact Or.inr ⟨hE, by omega⟩
    · exact absurd (r1' hE) hz
  · subst e
    exact absurd r2 hz
  · subst e
    exact absurd r3 hz
theorem el_rtn (hZ : el_Z n last E kd w rt) : ∀ r, r < 4 → rt r ≤ n := by
  obtain ⟨hn, hl, h3, h4, h5, h6, r0, r1, r1', r2, r3⟩ := hZ
  intro r hr
  have hr4 : r = 0 ∨ r = 1 ∨ r = 2 ∨ r = 3 := by omega
  rcases hr4 with e | e | e | e
  · subst e
    omega
  · subst e
    by_cases hE : E
    · rw [r1 hE]
      exact Nat.le_refl n
    · rw [r1' hE]
      exact Nat.zero_le n
  · subst e
    omega
  · subst e
    omega
/-- scanned copies, by objects -/
theorem el_Ki {N c i : Nat} {R : Nat → Prop} {kd fa fb np ord : Nat → Nat} (hP : eg_P N R c np ord) (hK : eg_K kd fa fb c np ord) (hi : i < N) (hn : np i ≠ 0) : (kd i = 0 → eg_D np (fa i)) ∧ (kd i ≠ 2 → eg_D np (fb i)) := by
  obtain ⟨q1, q2⟩ := hP.1 i hi
  have t := hK (np i - 1) (by omega)
  rw [(q2 hn).1] at t
  exact t
/-- what lives is copied -/
theorem el_all (hZ : el_Z n last E kd w rt) {c : Nat} {np ord : Nat → Nat} (hP : eg_P n (el_R n last E) c np ord) (hK : eg_K kd (el_fa w n) (el_fb w n) c np ord) (hD : ∀ q, q < 4 → eg_D np (rt q)) {i : Nat} (hi : el_R n last E i) : np i ≠ 0 := by
  obtain ⟨hn, hl, h3, h4, h5, h6, r0, r1, r1', r2, r3⟩ := hZ
  have main : ∀ i, i ≤ last → np i ≠ 0 := by
    intro i
    induction i with
    | zero =>
      intro _
      have t := hD 0 (by omega)
      rw [r0] at t
      exact t (by omega)
    | succ i ih =>
      intro h
      have hs := h3 i (by omega)
      obtain ⟨t1, t2⟩ := el_Ki hP hK (show i < n by omega) (ih (by omega))
      have hw := h6 i
      by_cases e : w i = 0
      · have k0 : kd i = 0 := by
          rcases hs with k0 | ⟨_, k1⟩
          · exact k0
          · omega
        have t := t1 k0
        rw [el_fa1 (show i + 1 < n by omega) e] at t
        exact t (by omega)
      · have k2 : kd i ≠ 2 := by
          rcases hs with k0 | ⟨k0, _⟩ <;> omega
        have t := t2 k2
        rw [el_fb1 (show i + 1 < n by omega) e] at t
        exact t (by omega)
  rcases hi with h | ⟨hE, h⟩
  · exact main i h
  · have t := hD 1 (by omega)
    rw [r1 hE, ← h] at t
    exact t (by omega)
theorem el_Rn (hZ : el_Z n last E kd w rt) {i : Nat} (h : el_R n last E i) : i < n := by
  obtain ⟨hn, hl, _⟩ := hZ
  rcases h with h | ⟨_, h⟩ <;> omega
/-- the numbers of the copies are the living ones -/
theorem el_S (hZ : el_Z n last E kd w rt) {c : Nat} {np ord : Nat → Nat} (hP : eg_P n (el_R n last E) c np ord) (hK : eg_K kd (el_fa w n) (el_fb w n) c np ord) (hD : ∀ q, q < 4 → eg_D np (rt q)) {s : Int32} (hS : eg_S (fun i => i) c ord s) {o : Nat} (ho : o < 32) : eb_t s o = true ↔ el_R n last E o := by
  rw [hS o ho]
  constructor
  · rintro ⟨j, hj, e⟩
    obtain ⟨q1, q2⟩ := hP.2.1 j hj
    have t := ((hP.1 (ord j) q1).2 (by omega)).2
    have e' : ord j = o := e
    rw [e'] at t
    exact t
  · intro h
    have hn := el_Rn hZ h
    have hz := el_all hZ hP hK hD h
    obtain ⟨q1, q2⟩ := hP.1 o hn
    exact ⟨np o - 1, by omega, (q2 hz).1⟩
theorem el_mask (hZ : el_Z n last E kd w rt) {c : Nat} {np ord : Nat → Nat} (hP : eg_P n (el_R n last E) c np ord) (hK : eg_K kd (el_fa w n) (el_fb w n) c np ord) (hD : ∀ q, q < 4 → eg_D np (rt q)) {s z0 : Int32} (hS : eg_S (fun i => i) c ord s)
    (hz : ∀ o, o < 32 → (eb_t z0 o = true ↔ E ∧ o + 1 = n)) : s = (((2 : Int32) <<< (nI last &&& 31)) - 1) ||| z0 := by
  have hl := hZ.2.1
  have hn := hZ.1
  apply eb_ext
  intro o ho
  rw [Bool.eq_iff_iff, el_S hZ hP hK hD hS ho, eb_or, Bool.or_eq_true, eb_low last (by omega) o ho, decide_eq_true_iff, hz o ho]
  exact Iff.rfl
theorem el_cnt (hZ : el_Z n last E kd w rt) {c : Nat} {np ord : Nat → Nat} (hP : eg_P n (el_R n last E) c np ord) (hK : eg_K kd (el_fa w n) (el_fb w n) c np ord) (hD : ∀ q, q < 4 → eg_D np (rt q)) {s : Int32} (hS : eg_S (fun i => i) c ord s) : eg_cnt (eb_t s) 20 = c := by
  have hn := hZ.1
  have t := eg_cnt_ext (f := eb_t s) (g := fun i => decide (np i ≠ 0)) (N := n) (fun i hi => by
    rw [Bool.eq_iff_iff, el_S hZ hP hK hD hS (by omega), decide_eq_true_iff]
    exact ⟨fun h => el_all hZ hP hK hD h, fun h => ((hP.1 i hi).2 h).2⟩) (20 - n) (fun i h1 h2 => by
    rw [← Bool.not_eq_true, el_S hZ hP hK hD hS (by omega)]
    intro h
    have := el_Rn hZ h
    omega)
  rw [show n + (20 - n) = 20 by omega, hP.2.2] at t
  exact t
theorem el_cnt0 : ∀ n, n < 9 → eg_cnt (eb_t (nI (2 ^ n - 1))) 20 = n := by decide +kernel
/-- the second clean: everything is reached -/
theorem el_two (hZ : el_Z n last E kd w rt) {f c c' : Nat} {np ord np' ord' : Nat → Nat} (hP : eg_P n (el_R n last E) c np ord) (hK : eg_K kd (el_fa w n) (el_fb w n) c np ord) (hD : ∀ q, q < 4 → eg_D np (rt q))
    (hP' : eg_P c (fun _ => True) c' np' ord') (hK' : eg_K (fun j => kd (ord j)) (fun j => eg_ma f np (kd (ord j)) (el_fa w n (ord j))) (fun j => eg_mb f np (kd (ord j)) (el_fa w n (ord j)) (el_fb w n (ord j))) c' np' ord') (hD' : ∀ q, q < 4 → eg_D np' (eg_mv np (rt q))) : c' = c := by
  have al := fun i (h : el_R n last E i) => el_all hZ hP hK hD h
  obtain ⟨hn, hl, h3, h4, h5, h6, r0, r1, r1', r2, r3⟩ := id hZ
  have main : ∀ i, i ≤ last → np' (np i - 1) ≠ 0 := by
    intro i
    induction i with
    | zero =>
      intro _
      have t := hD' 0 (by omega)
      rw [r0] at t
      exact t (al 0 (Or.inl (Nat.zero_le last)))
    | succ i ih =>
      intro h
      have hs := h3 i (by omega)
      have ni := al i (Or.inl (by omega))
      have ni1 := al (i + 1) (Or.inl h)
      obtain ⟨q1, q2⟩ := hP.1 i (by omega)
      have eo := (q2 ni).1
      have t := el_Ki hP' hK' (show np i - 1 < c by omega) (ih (by omega))
      rw [eo] at t
      obtain ⟨t1, t2⟩ := t
      have hw := h6 i
      by_cases e : w i = 0
      · have k0 : kd i = 0 := by
          rcases hs with k0 | ⟨_, k1⟩
          · exact k0
          · omega
        have t := t1 k0
        rw [el_fa1 (show i + 1 < n by omega) e] at t
        unfold eg_ma at t
        rw [if_neg (fun z => absurd z.1 (by omega))] at t
        exact t ni1
      · have k2 : kd i ≠ 2 := by
          rcases hs with k0 | ⟨k0, _⟩ <;> omega
        have t := t2 k2
        rw [el_fb1 (show i + 1 < n by omega) e] at t
        unfold eg_mb at t
        rw [if_neg (fun z => absurd z.1 k2)] at t
        exact t ni1
  have full : ∀ j, j < c → decide (np' j ≠ 0) = true := by
    intro j hj
    obtain ⟨q1, q2⟩ := hP.2.1 j hj
    have hR := ((hP.1 (ord j) q1).2 (by omega)).2
    apply decide_eq_true
    have e : np (ord j) - 1 = j := by omega
    rcases hR with h | ⟨hE, h⟩
    · have t := main (ord j) h
      rw [e] at t
      exact t
    · have t := hD' 1 (by omega)
      rw [r1 hE, ← h] at t
      have t' : np' (np (ord j) - 1) ≠ 0 := t (show np (ord j) ≠ 0 by omega)
      rw [e] at t'
      exact t'
  have t := eg_cnt_full (f := fun j => decide (np' j ≠ 0)) c full
  rw [hP'.2.2] at t
  exact t
end
end
section
/-! the end of the law: alive, clean, clean -/
section
variable {n last : Nat} {E : Prop} {kd w rt : Nat → Nat}
theorem el_X2 (hZ : el_Z n last E kd w rt) {c f : Nat} {np ord : Nat → Nat} (hP : eg_P n (el_R n last E) c np ord) :
    eg_X 20 0 c (fun j => ord j) (fun j => kd (ord j)) (fun j => eg_ma f np (kd (ord j)) (el_fa w n (ord j))) (fun j => eg_mb f np (kd (ord j)) (el_fa w n (ord j)) (el_fb w n (ord j))) (fun _ => True) (1 - 0) := by
  have hX := el_X hZ
  have hc := eg_cN hP
  have hn := hX.2.1.1
  refine ⟨eg_spx hX.1, ⟨by omega, fun j hj => ?_⟩, fun i hi hR => ⟨fun _ _ => trivial, fun _ _ => trivial, fun _ _ _ => trivial⟩⟩
  have ho := (hP.2.1 j hj).1
  obtain ⟨g1, g2, g3, g4⟩ := hX.2.1.2 (ord j) ho
  exact ⟨g1, g2, eg_ma_le hP g3, eg_mb_le hP g4⟩
theorem el_229 {mc ms kc ks : Nat} {z0 us cp sc : Int32} {a1 a2 a3 a4 a5 a6 a7 a8 : Nat → Int32} (hZ : el_Z n last E kd w rt) (hO : eg_old 0 n (fun i => i) kd (el_fa w n) (el_fb w n) a2 a3 a4 a5) (hT : eg_T 0 n rt a7)
    (hz : ∀ o, o < 32 → (eb_t z0 o = true ↔ E ∧ o + 1 = n)) :
    wL_lawOf_229 (fun r _ => r = 1) mc ms (nI n) z0 (((2 : Int32) <<< (nI last &&& 31)) - 1) kc ks (nI (2 ^ n - 1)) 0 0 us cp sc 0 a1 a2 a3 a4 a5 a6 a7 a8 := by
  have hn := hZ.1
  unfold wL_lawOf_229
  refine nm_e ?_
  refine eg_alive (el_X hZ) hO hT (el_RT hZ) (fun s c np ord b2 b3 b4 b5 b6 hS hI hK hD => ?_)
  refine br_t (el_mask hZ hI.1 hK hD hS hz) ?_
  refine br_t (eb_allS n hn).symm ?_
  refine eg_clean (el_X hZ) hI.2.1 hT (el_RT hZ) (fun f c1 np1 ord1 pr1 d1 d2 d3 d4 d5 d6 d7 hP1 hK1 hD1 hS1 hO1 hT1 => ?_)
  have hc1 := eg_cN hP1
  refine br_t (el_mask hZ hP1 hK1 hD1 hS1 hz) ?_
  refine eg_ones (br_t ?_ ?_)
  · rw [el_cnt hZ hP1 hK1 hD1 hS1, el_cnt0 n hn, pk_sub hc1, pk_sub (by omega), show n - (n - c1) = c1 by omega]
  · refine eg_clean (el_X2 hZ hP1) hO1 hT1 (fun _ _ _ => trivial) (fun f2 c2 np2 ord2 pr2 e1 e2 e3 e4 e5 e6 e7 hP2 hK2 hD2 hS2 hO2 hT2 => br_t ?_ rfl)
    rw [el_cnt hZ hP1 hK1 hD1 hS1, el_two hZ hP1 hK1 hD1 hP2 hK2 hD2, pk_sub (Nat.le_refl c1), Nat.sub_self]
    rfl
def el_rt (x r : Nat) : Nat := if r = 0 then 1 else if r = 1 then x else 0
theorem el_T {x : Nat} {a7 : Nat → Int32} (hn : 0 < n) (hx : x ≤ n) (h2 : a7 2 = -1) (h3 : a7 3 = -1) : eg_T 0 n (el_rt x) (upd (upd a7 0 (eg_e 0 1)) 1 (eg_e 0 x)) := by
  intro r hr
  have hr4 : r = 0 ∨ r = 1 ∨ r = 2 ∨ r = 3 := by omega
  rcases hr4 with e | e | e | e
  · subst e
    exact ⟨by rw [pk_un (by omega), pk_us]; rfl, hn⟩
  · subst e
    exact ⟨by rw [pk_us]; rfl, hx⟩
  · subst e
    exact ⟨by rw [pk_un (by omega), pk_un (by omega), h2]; rfl, Nat.zero_le n⟩
  · subst e
    exact ⟨by rw [pk_un (by omega), pk_un (by omega), h3]; rfl, Nat.zero_le n⟩
/-- the law's loop is through -/
theorem el_exit {mc ms kc ks m : Nat} {x1 x2 x3 on : Int32} {a1 a2 a3 a4 a5 a6 a7 a8 : Nat → Int32} (hn : n < 9) (hl : last < n) (h3 : ∀ j, j < last → el_st kd w j) (h4 : last + 1 = n ∨ ¬ el_st kd w last) (h5 : ∀ i, kd i < 3) (h6 : ∀ i, w i < 2) (h1 : ∀ i, i < n → a1 i = nI i)
    (hO : eg_old 0 n (fun i => i) kd (el_fa w n) (el_fb w n) a2 a3 a4 a5) (h72 : a7 2 = -1) (h73 : a7 3 = -1) :
    wL_lawOf_26 (fun r _ => r = 1) mc ms x1 x2 x3 (nI n) kc ks (m + 1) (nI last) on (nI n) (nI (2 ^ n - 1)) 0 0 (nI n) 0 0 0 a1 a2 a3 a4 a5 a6 a7 a8 := by
  refine pk_le n n (fun _ => ?_) (fun z => absurd z (by omega))
  refine el_root (k := n) (r := 0) (x := 1) hn (by omega) (by omega) rfl h1 ?_
  by_cases hx : x3 &&& 1 = 0
  · refine br_t hx ?_
    refine el_root (k := n) (r := 1) (x := 0) hn (by omega) (by omega) rfl h1 (br_t hx ?_)
    refine el_229 (rt := el_rt 0) (E := ¬ x3 &&& 1 = 0) ⟨hn, hl, h3, h4, h5, h6, rfl, fun z => absurd hx z, fun _ => rfl, rfl, rfl⟩ hO (el_T (by omega) (by omega) h72 h73) (fun o ho => ?_)
    rw [eb_0]
    exact ⟨fun z => absurd z (by decide), fun z => absurd hx z.1⟩
  · refine br_f hx ?_
    obtain ⟨q, rfl⟩ : ∃ q, n = q + 1 := ⟨n - 1, by omega⟩
    refine el_root (k := q + 1) (r := 1) (x := q + 1) hn (by omega) (by omega) (by rw [nI_pred, el_e0]) h1 (br_f hx ?_)
    refine el_229 (rt := el_rt (q + 1)) (E := ¬ x3 &&& 1 = 0) ⟨hn, hl, h3, h4, h5, h6, rfl, fun _ => rfl, fun z => absurd hx z, rfl, rfl⟩ hO (el_T (by omega) (by omega) h72 h73) (fun o ho => ?_)
    rw [nI_pred, eb_one q (by omega) o ho, decide_eq_true_iff]
    exact ⟨fun e => ⟨hx, by omega⟩, fun e => by omega⟩
end
end
section
/-! the law's loop -/
def el_kx (x y : Int32) : Int32 := (((x.toUInt32 >>> ((2 * y).toUInt32 &&& Int32.toUInt32 31)).toInt32) &&& 3) - (((x.toUInt32 >>> ((2 * y).toUInt32 &&& Int32.toUInt32 31)).toInt32) &&& 3) / 3 * 3
def el_wx (x y : Int32) : Int32 := ((x.toUInt32 >>> (y.toUInt32 &&& Int32.toUInt32 31)).toInt32) &&& 1
theorem el_kx3 (x y : Int32) : ∃ t : Nat, t < 3 ∧ el_kx x y = nI t := by
  unfold el_kx
  obtain ⟨j, hj, e⟩ := pk_andE (x.toUInt32 >>> ((2 * y).toUInt32 &&& Int32.toUInt32 31)).toInt32 (m := 3) 2 (by decide)
  rw [e]
  exact ⟨j % 3, by omega, pk_rem (d := 3) (by omega) (by omega) (by omega)⟩
theorem el_wx2 (x y : Int32) : ∃ t : Nat, t < 2 ∧ el_wx x y = nI t := by
  obtain ⟨j, hj, e⟩ := pk_andE (x.toUInt32 >>> (y.toUInt32 &&& Int32.toUInt32 31)).toInt32 (m := 1) 1 (by decide)
  exact ⟨j, by omega, e⟩
def el_kd (x : Int32) (i : Nat) : Nat := (el_kx x (nI i)).toNatClampNeg
def el_w (x : Int32) (i : Nat) : Nat := (el_wx x (nI i)).toNatClampNeg
theorem el_kdE (x : Int32) (i : Nat) : el_kx x (nI i) = nI (el_kd x i) := by
  obtain ⟨t, ht, e⟩ := el_kx3 x (nI i)
  unfold el_kd
  rw [e, nI_clamp (by omega)]
theorem el_kd3 (x : Int32) (i : Nat) : el_kd x i < 3 := by
  obtain ⟨t, ht, e⟩ := el_kx3 x (nI i)
  unfold el_kd
  rw [e, nI_clamp (by omega)]
  exact ht
theorem el_wE (x : Int32) (i : Nat) : el_wx x (nI i) = nI (el_w x i) := by
  obtain ⟨t, ht, e⟩ := el_wx2 x (nI i)
  unfold el_w
  rw [e, nI_clamp (by omega)]
theorem el_w2 (x : Int32) (i : Nat) : el_w x i < 2 := by
  obtain ⟨t, ht, e⟩ := el_wx2 x (nI i)
  unfold el_w
  rw [e, nI_clamp (by omega)]
  exact ht
/-- 'on' and 'last' behind k turns -/
def el_Q (kd w : Nat → Nat) (k : Nat) (on : Int32) (last : Nat) : Prop := (k = 0 ∧ last = 0 ∧ on = 1) ∨ (last < k ∧ (∀ j, j < last → el_st kd w j) ∧ ((on = 1 ∧ last + 1 = k) ∨ (on = 0 ∧ last + 1 < k ∧ ¬ el_st kd w last)))
section
variable {kd w : Nat → Nat}
theorem el_124 {post : Int32 → St0 → Prop} {mc ms kc ks : Nat} {J26 : Int32 → Int32 → Int32 → Int32 → Int32 → Int32 → Int32 → Int32 → Int32 → Int32 → (Nat → Int32) → (Nat → Int32) → (Nat → Int32) → (Nat → Int32) → (Nat → Int32) → (Nat → Int32) → (Nat → Int32) → (Nat → Int32) → Prop}
    {x1 x2 x3 x5 x11 x12 on pr wa sp us cp sc qs : Int32} {a1 a2 a3 a4 a5 a6 a7 a8 : Nat → Int32} {k last : Nat} (hk : k < 9) (hQ : el_Q kd w k on last) (h5 : ∀ i, kd i < 3) (h6 : ∀ i, w i < 2) (h11 : k ≠ 0 → x11 = nI (kd (k - 1)) ∧ x12 = nI (w (k - 1)))
    (H : ∀ on' last', el_Q kd w (k + 1) on' last' → J26 (nI last') on' (nI (k + 1)) pr wa sp us cp sc qs a1 a2 a3 a4 a5 a6 a7 a8) :
    wL_lawOf_124 post mc ms J26 x1 x2 x3 x5 (nI last) on (nI k) x11 x12 kc ks pr wa sp us cp sc qs a1 a2 a3 a4 a5 a6 a7 a8 := by
  -- on: last becomes k
  have t1 : el_Q kd w (k + 1) 1 k → wL_lawOf_151 post mc ms J26 x1 x2 x3 x5 (nI last) (nI k) kc ks pr wa sp us cp sc qs a1 a2 a3 a4 a5 a6 a7 a8 := fun h => br_f (by decide) (nm_r (nI_1 k) (H 1 k h))
  -- off: last stays
  have t0 : el_Q kd w (k + 1) 0 last → wL_lawOf_155 post mc ms J26 x1 x2 x3 x5 (nI last) (nI k) kc ks pr wa sp us cp sc qs a1 a2 a3 a4 a5 a6 a7 a8 := fun h => br_t rfl (nm_r (nI_1 k) (H 0 last h))
  rcases hQ with ⟨e0, el, eo⟩ | ⟨hl, hst, ⟨eo, e1⟩ | ⟨eo, e1, hns⟩⟩
  · subst e0
    subst eo
    exact br_f (by decide) (br_t rfl (t1 (Or.inr ⟨by omega, fun j hj => absurd hj (by omega), Or.inl ⟨rfl, rfl⟩⟩)))
  · subst eo
    obtain ⟨e11, e12⟩ := h11 (by omega)
    have ek : k - 1 = last := by omega
    rw [ek] at e11 e12
    have g1 : el_st kd w last → el_Q kd w (k + 1) 1 k := fun hs => Or.inr ⟨by omega, fun j hj => by
      by_cases e : j = last
      · subst e
        exact hs
      · exact hst j (by omega), Or.inl ⟨rfl, rfl⟩⟩
    have g0 : ¬ el_st kd w last → el_Q kd w (k + 1) 0 last := fun hs => Or.inr ⟨by omega, hst, Or.inr ⟨rfl, by omega, hs⟩⟩
    have l5 := h5 last
    have l6 := h6 last
    refine br_f (by decide) (br_f (nI_ne0 (by omega) (by omega)) ?_)
    refine pk_eq (kd last) 0 (fun k0 => t1 (g1 (Or.inl k0))) (fun k0 => ?_) e11
    refine pk_eq (kd last) 1 (fun k1 => ?_) (fun k1 => t0 (g0 (fun hs => ?_))) e11
    · refine pk_eq (w last) 1 (fun w1 => t1 (g1 (Or.inr ⟨k1, w1⟩))) (fun w1 => t0 (g0 (fun hs => ?_))) e12
      rcases hs with h | ⟨_, h⟩
      · exact k0 h
      · exact w1 h
    · rcases hs with h | ⟨h, _⟩
      · exact k0 h
      · exact k1 h
  · subst eo
    exact br_t rfl (t0 (Or.inr ⟨by omega, hst, Or.inr ⟨rfl, by omega, hns⟩⟩))
/-- a new object, no field set -/
theorem el_oldM {k : Nat} {a2 a3 a4 a5 : Nat → Int32} (hO : eg_old 0 k (fun i => i) kd (el_fa w k) (el_fb w k) a2 a3 a4 a5) : eg_old 0 (k + 1) (fun i => i) kd (el_fa w k) (el_fb w k) (upd a2 k (nI k)) (upd a3 k (nI (kd k))) (upd a4 k (-1)) (upd a5 k (-1)) := by
  intro i hi
  by_cases e : i = k
  · subst e
    rw [Nat.zero_add, pk_us, pk_us, pk_us, pk_us]
    have ea : el_fa w i i = 0 := if_neg (by omega)
    have eb : el_fb w i i = 0 := if_neg (by omega)
    rw [ea, eb]
    exact ⟨rfl, rfl, rfl, rfl⟩
  · rw [pk_un (by omega), pk_un (by omega), pk_un (by omega), pk_un (by omega)]
    exact hO i (by omega)
theorem el_faS {q i : Nat} (h : i ≠ q) : el_fa w (q + 2) i = el_fa w (q + 1) i ∨ q + 1 ≤ i := by
  by_cases e : q + 1 ≤ i
  · exact Or.inr e
  · left
    unfold el_fa
    have e1 : i + 1 < q + 2 := by omega
    have e2 : i + 1 < q + 1 := by omega
    simp only [e1, e2]
theorem el_same {q i : Nat} (h : i ≠ q) (hi : i < q + 2) : el_fa w (q + 2) i = el_fa w (q + 1) i ∧ el_fb w (q + 2) i = el_fb w (q + 1) i := by
  unfold el_fa el_fb
  by_cases e : i + 1 < q + 1
  · have e1 : i + 1 < q + 2 := by omega
    simp only [e1, e]
    exact ⟨trivial, trivial⟩
  · have e1 : ¬ i + 1 < q + 2 := by omega
    simp only [e1, e]
    exact ⟨trivial, trivial⟩
theorem el_oldA {q : Nat} {a2 a3 a4 a5 : Nat → Int32} (hO : eg_old 0 (q + 2) (fun i => i) kd (el_fa w (q + 1)) (el_fb w (q + 1)) a2 a3 a4 a5) (hw : w q = 0) : eg_old 0 (q + 2) (fun i => i) kd (el_fa w (q + 2)) (el_fb w (q + 2)) a2 a3 (upd a4 q (nI (q + 1))) a5 := by
  intro i hi
  obtain ⟨o2, o3, o4, o5⟩ := hO i hi
  by_cases e : i = q
  · subst e
    have fb0 : el_fb w (i + 1) i = 0 := if_neg (by omega)
    have fb0' : el_fb w (i + 2) i = 0 := if_neg (fun z => z.2 hw)
    rw [fb0] at o5
    rw [fb0', el_fa1 (show i + 1 < i + 2 by omega) hw]
    refine ⟨o2, o3, ?_, o5⟩
    rw [Nat.zero_add, pk_us, el_e0]
  · obtain ⟨ea, eb⟩ := el_same (w := w) e hi
    rw [ea, eb]
    refine ⟨o2, o3, ?_, o5⟩
    rw [pk_un (by omega)]
    exact o4
theorem el_oldB {q : Nat} {a2 a3 a4 a5 : Nat → Int32} (hO : eg_old 0 (q + 2) (fun i => i) kd (el_fa w (q + 1)) (el_fb w (q + 1)) a2 a3 a4 a5) (hw : w q ≠ 0) : eg_old 0 (q + 2) (fun i => i) kd (el_fa w (q + 2)) (el_fb w (q + 2)) a2 a3 a4 (upd a5 q (nI (q + 1))) := by
  intro i hi
  obtain ⟨o2, o3, o4, o5⟩ := hO i hi
  by_cases e : i = q
  · subst e
    have fa0 : el_fa w (i + 1) i = 0 := if_neg (by omega)
    have fa0' : el_fa w (i + 2) i = 0 := if_neg (fun z => hw z.2)
    rw [fa0] at o4
    rw [fa0', el_fb1 (show i + 1 < i + 2 by omega) hw]
    refine ⟨o2, o3, o4, ?_⟩
    rw [Nat.zero_add, pk_us, el_e0]
  · obtain ⟨ea, eb⟩ := el_same (w := w) e hi
    rw [ea, eb]
    refine ⟨o2, o3, o4, ?_⟩
    rw [pk_un (by omega)]
    exact o5
theorem el_old1 {a2 a3 a4 a5 : Nat → Int32} (hO : eg_old 0 1 (fun i => i) kd (el_fa w 0) (el_fb w 0) a2 a3 a4 a5) : eg_old 0 1 (fun i => i) kd (el_fa w 1) (el_fb w 1) a2 a3 a4 a5 := by
  intro i hi
  have t := hO i hi
  have e1 : el_fa w 0 i = 0 := if_neg (by omega)
  have e2 : el_fb w 0 i = 0 := if_neg (by omega)
  have e3 : el_fa w 1 i = 0 := if_neg (by omega)
  have e4 : el_fb w 1 i = 0 := if_neg (by omega)
  rw [e3, e4]
  rw [e1, e2] at t
  exact t
end
/-- the loop -/
theorem el_26 {mc ms kc ks n : Nat} {x1 x2 x3 : Int32} {a6 a8 : Nat → Int32} (hn : n < 9) (hn0 : 0 < n) :
    ∀ (m k last : Nat) (on : Int32) (a1 a2 a3 a4 a5 a7 : Nat → Int32), k + m = n → el_Q (el_kd x1) (el_w x2) k on last → (∀ i, i < k → a1 i = nI i) → eg_old 0 k (fun i => i) (el_kd x1) (el_fa (el_w x2) k) (el_fb (el_w x2) k) a2 a3 a4 a5 → a7 2 = -1 → a7 3 = -1 →
    wL_lawOf_26 (fun r _ => r = 1) mc ms x1 x2 x3 (nI n) kc ks (m + 1) (nI last) on (nI k) (nI (2 ^ k - 1)) 0 0 (nI k) 0 0 0 a1 a2 a3 a4 a5 a6 a7 a8 := by
  intro m
  induction m with
  | zero =>
    intro k last on a1 a2 a3 a4 a5 a7 hk hQ h1 hO h72 h73
    have e : k = n := by omega
    subst e
    rcases hQ with ⟨e0, _, _⟩ | ⟨hl, hst, h⟩
    · exact absurd e0 (by omega)
    · refine el_exit hn hl hst ?_ (el_kd3 x1) (el_w2 x2) h1 hO h72 h73
      rcases h with ⟨_, h⟩ | ⟨_, _, h⟩
      · exact Or.inl h
      · exact Or.inr h
  | succ m ih =>
    intro k last on a1 a2 a3 a4 a5 a7 hk hQ h1 hO h72 h73
    refine pk_le n k (fun z => absurd z (by omega)) (fun hkn => ⟨by decide, nm_r (el_kdE x1 k) ?_⟩)
    refine el_make (by omega) (el_kd3 x1 k) (br_t rfl (nm_e ⟨by decide, ?_⟩))
    have h1' : ∀ i, i < k + 1 → upd a1 k (nI k) i = nI i := lt_s (fun i hi => by rw [pk_un (by omega)]; exact h1 i hi) pk_us
    have h72' : upd a7 1 (nI k) 2 = -1 := by rw [pk_un (by omega)]; exact h72
    have h73' : upd a7 1 (nI k) 3 = -1 := by rw [pk_un (by omega)]; exact h73
    have hO' := el_oldM hO
    cases k with
    | zero =>
      refine nm_e (br_t rfl (br_t (by decide) ?_))
      refine el_124 (kd := el_kd x1) (w := el_w x2) (k := 0) (by omega) hQ (el_kd3 x1) (el_w2 x2) (fun z => absurd rfl z) (fun on' last' hQ' => ?_)
      exact ih 1 last' on' _ _ _ _ _ _ (by omega) hQ' h1' (el_old1 hO') h72' h73'
    | succ q =>
      rw [nI_pred q]
      refine nm_r (el_kdE x1 q) (br_f (nI_ne0 (by omega) (by omega)) ?_)
      have ew : ((x2.toUInt32 >>> ((nI q).toUInt32 &&& Int32.toUInt32 31)).toInt32) &&& 1 = nI (el_w x2 q) := el_wE x2 q
      rw [ew]
      unfold wL_lawOf_99
      rw [nI_pred q]
      refine br_f (nI_nle (by omega) (by omega)) (el_point (k := q + 2) (by omega) (by omega) (el_w2 x2 q) h1' (fun hw => br_f (by decide) ?_) (fun hw => br_f (by decide) ?_))
      · refine el_124 (kd := el_kd x1) (w := el_w x2) (k := q + 1) (by omega) hQ (el_kd3 x1) (el_w2 x2) (fun _ => ⟨rfl, rfl⟩) (fun on' last' hQ' => ?_)
        exact ih (q + 2) last' on' _ _ _ _ _ _ (by omega) hQ' h1' (el_oldA hO' hw) h72' h73'
      · refine el_124 (kd := el_kd x1) (w := el_w x2) (k := q + 1) (by omega) hQ (el_kd3 x1) (el_w2 x2) (fun _ => ⟨rfl, rfl⟩) (fun on' last' hQ' => ?_)
        exact ih (q + 2) last' on' _ _ _ _ _ _ (by omega) hQ' h1' (el_oldB hO' hw) h72' h73'
end
section
theorem el_cell {post : Int32 → Prop} {L : Nat} {xs : Nat → Int32} {p : Nat} (hL : L ≤ 4) (hp : p < 4) (H : ∀ r, post r) : wpL_cellAt post L xs () (nI p) :=
  pk_le L p (fun _ => H _) (fun h => ⟨vp_in_nI h (by omega), H _⟩)
theorem el_lawOf (x0 x1 x2 x3 : Int32) : wpL_lawOf (fun r _ => r = 1) 58 912 () x0 x1 x2 x3 := by
  unfold wpL_lawOf
  refine ⟨by decide, by decide, 8, 244, by decide, by decide, el_init (fun a7 h7 => ?_)⟩
  obtain ⟨j, hj, e⟩ := pk_andE x0 (m := 7) 3 (by decide)
  refine nm_r (e' := nI (1 + j)) (by rw [e, ← nI_add]; rfl) ⟨1 + j + 1, ?_⟩
  exact el_26 (n := 1 + j) (by omega) (by omega) (1 + j) 0 0 1 _ _ _ _ _ _ (by omega) (Or.inl ⟨rfl, rfl, rfl⟩) (fun i hi => absurd hi (by omega)) (fun i hi => absurd hi (by omega)) (h7 2 (by omega)) (h7 3 (by omega))
theorem i_vc (xs : Nat → Int32) (L : Nat) (hL : L ≤ 4) : wpL_law (fun r => r = 1) L xs := by
  unfold wpL_law
  refine el_cell (p := 0) hL (by omega) (fun r1 => el_cell (p := 1) hL (by omega) (fun r2 => el_cell (p := 2) hL (by omega) (fun r3 => el_cell (p := 3) hL (by omega) (fun r4 => ⟨58, 912, by decide, by decide, ?_⟩))))
  exact el_lawOf r1 r2 r3 r4
end
