section
/-! the machine in plain terms: k j is the kind of character j -/
/-- the innermost open bracket, -2 if there is none -/
def sx_top : List Nat → Int32
  | [] => -2
  | o :: _ => nI o
/-- the next mode -/
def sx_nm (c m e : Int32) : Int32 := if e = 0 then (if m = 0 then (if c = 4 then 1 else if c = 6 then 2 else 0) else if m = 1 then (if c = 4 then 0 else 1) else (if c = 7 then 0 else m)) else m
/-- the next escape -/
def sx_ne (c m e : Int32) : Int32 := if e = 0 then (if m = 0 then (if c = 5 then 1 else 0) else if m = 1 then (if c = 5 then 1 else 0) else 0) else 0
/-- the next open brackets, innermost first -/
def sx_nl (c m e : Int32) (i : Nat) (l : List Nat) : List Nat := if e = 0 then (if m = 0 then (if c = 2 then i :: l else if c = 3 then l.tail else l) else l) else l
/-- mode and escape at gap n -/
def sx_me (k : Nat → Int32) : Nat → Int32 × Int32
  | 0 => (0, 0)
  | n + 1 => (sx_nm (k n) (sx_me k n).1 (sx_me k n).2, sx_ne (k n) (sx_me k n).1 (sx_me k n).2)
def sx_m (k : Nat → Int32) (n : Nat) : Int32 := (sx_me k n).1
def sx_e (k : Nat → Int32) (n : Nat) : Int32 := (sx_me k n).2
/-- the open brackets at gap n -/
def sx_l (k : Nat → Int32) : Nat → List Nat
  | 0 => []
  | n + 1 => sx_nl (k n) (sx_m k n) (sx_e k n) n (sx_l k n)
/-- the part that a character c plays in the state m, e, l -/
def sx_ro (c m e : Int32) (l : List Nat) : Int32 :=
  if m = 0 then (if e = 0 then (if c = 0 then 6 else if c = 5 then 6 else if c = 2 then 1 else if c = 3 then (if l = [] then 3 else 2) else if c = 4 then 4 else 0) else 6)
  else if m = 1 then (if e = 0 then (if c = 4 then 5 else 0) else 0) else 0
def sx_r (k : Nat → Int32) (n : Nat) : Int32 := sx_ro (k n) (sx_m k n) (sx_e k n) (sx_l k n)
/-- the partners when n characters are noted -/
def sx_p (k : Nat → Int32) : Nat → Nat → Int32
  | 0 => fun _ => -2
  | n + 1 => if sx_r k n = 2 then upd (upd (sx_p k n) n (sx_top (sx_l k n))) ((sx_l k n).headD 0) (nI n) else sx_p k n
/-- the strays before gap n -/
def sx_st (k : Nat → Int32) : Nat → Nat
  | 0 => 0
  | n + 1 => if sx_r k n = 3 then sx_st k n + 1 else sx_st k n
theorem sx_m0 (k : Nat → Int32) : sx_m k 0 = 0 := rfl
theorem sx_e0 (k : Nat → Int32) : sx_e k 0 = 0 := rfl
theorem sx_ms (k : Nat → Int32) (n : Nat) : sx_m k (n + 1) = sx_nm (k n) (sx_m k n) (sx_e k n) := rfl
theorem sx_es (k : Nat → Int32) (n : Nat) : sx_e k (n + 1) = sx_ne (k n) (sx_m k n) (sx_e k n) := rfl
theorem sx_ls (k : Nat → Int32) (n : Nat) : sx_l k (n + 1) = sx_nl (k n) (sx_m k n) (sx_e k n) n (sx_l k n) := rfl
theorem sx_nm3 (c m e : Int32) (h : m = 0 ∨ m = 1 ∨ m = 2) : sx_nm c m e = 0 ∨ sx_nm c m e = 1 ∨ sx_nm c m e = 2 := by
  unfold sx_nm
  split
  · split
    · split
      · exact Or.inr (Or.inl rfl)
      · split
        · exact Or.inr (Or.inr rfl)
        · exact Or.inl rfl
    · split
      · split
        · exact Or.inl rfl
        · exact Or.inr (Or.inl rfl)
      · split
        · exact Or.inl rfl
        · exact h
  · exact h
theorem sx_ne2 (c m e : Int32) : sx_ne c m e = 0 ∨ sx_ne c m e = 1 := by
  unfold sx_ne
  split
  · split
    · split
      · exact Or.inr rfl
      · exact Or.inl rfl
    · split
      · split
        · exact Or.inr rfl
        · exact Or.inl rfl
      · exact Or.inl rfl
  · exact Or.inl rfl
theorem sx_m3 (k : Nat → Int32) (n : Nat) : sx_m k n = 0 ∨ sx_m k n = 1 ∨ sx_m k n = 2 := by
  induction n with
  | zero => exact Or.inl rfl
  | succ n ih => exact sx_nm3 _ _ _ ih
theorem sx_e2 (k : Nat → Int32) (n : Nat) : sx_e k n = 0 ∨ sx_e k n = 1 := by
  cases n with
  | zero => exact Or.inl rfl
  | succ n => exact sx_ne2 _ _ _
theorem sx_roD {c m e : Int32} {l : List Nat} (h : ¬ (m = 0 ∧ e = 0 ∧ (c = 2 ∨ c = 3))) : sx_ro c m e l ≠ 1 ∧ sx_ro c m e l ≠ 2 ∧ sx_ro c m e l ≠ 3 := by
  unfold sx_ro
  by_cases hm : m = 0
  · by_cases he : e = 0
    · have h2 : ¬ c = 2 := fun z => h ⟨hm, he, Or.inl z⟩
      have h3 : ¬ c = 3 := fun z => h ⟨hm, he, Or.inr z⟩
      rw [if_pos hm, if_pos he, if_neg h2, if_neg h3]
      split
      · decide
      · split
        · decide
        · split
          · decide
          · decide
    · rw [if_pos hm, if_neg he]
      decide
  · rw [if_neg hm]
    split
    · split
      · split
        · decide
        · decide
      · decide
    · decide
theorem sx_nlD {c m e : Int32} {i : Nat} {l : List Nat} (h : ¬ (m = 0 ∧ e = 0 ∧ (c = 2 ∨ c = 3))) : sx_nl c m e i l = l := by
  unfold sx_nl
  by_cases he : e = 0
  · by_cases hm : m = 0
    · rw [if_pos he, if_pos hm, if_neg (fun z => h ⟨hm, he, Or.inl z⟩), if_neg (fun z => h ⟨hm, he, Or.inr z⟩)]
    · rw [if_pos he, if_neg hm]
  · rw [if_neg he]
theorem sx_ro2 (l : List Nat) : sx_ro 2 0 0 l = 1 := rfl
theorem sx_ro3 (o : Nat) (l : List Nat) : sx_ro 3 0 0 (o :: l) = 2 := rfl
theorem sx_ro3n : sx_ro 3 0 0 [] = 3 := rfl
/-- what one character does to the open brackets -/
theorem sx_cs (k : Nat → Int32) (n : Nat) :
    (sx_m k n = 0 ∧ sx_e k n = 0 ∧ k n = 2 ∧ sx_r k n = 1 ∧ sx_l k (n + 1) = n :: sx_l k n) ∨
    (sx_m k n = 0 ∧ sx_e k n = 0 ∧ k n = 3 ∧ sx_r k n = 2 ∧ ∃ o r, sx_l k n = o :: r ∧ sx_l k (n + 1) = r) ∨
    (sx_m k n = 0 ∧ sx_e k n = 0 ∧ k n = 3 ∧ sx_r k n = 3 ∧ sx_l k n = [] ∧ sx_l k (n + 1) = []) ∨
    (¬ (sx_m k n = 0 ∧ sx_e k n = 0 ∧ (k n = 2 ∨ k n = 3)) ∧ sx_r k n ≠ 1 ∧ sx_r k n ≠ 2 ∧ sx_r k n ≠ 3 ∧ sx_l k (n + 1) = sx_l k n) := by
  by_cases h : sx_m k n = 0 ∧ sx_e k n = 0 ∧ (k n = 2 ∨ k n = 3)
  · obtain ⟨hm, he, h2 | h3⟩ := h
    · refine Or.inl ⟨hm, he, h2, ?_, ?_⟩
      · unfold sx_r
        rw [hm, he, h2, sx_ro2]
      · rw [sx_ls, hm, he, h2]
        rfl
    · refine Or.inr ?_
      cases hl : sx_l k n with
      | nil =>
        refine Or.inr (Or.inl ⟨hm, he, h3, ?_, rfl, ?_⟩)
        · unfold sx_r
          rw [hm, he, h3, hl, sx_ro3n]
        · rw [sx_ls, hm, he, h3, hl]
          rfl
      | cons o r =>
        refine Or.inl ⟨hm, he, h3, ?_, o, r, rfl, ?_⟩
        · unfold sx_r
          rw [hm, he, h3, hl, sx_ro3]
        · rw [sx_ls, hm, he, h3, hl]
          rfl
  · refine Or.inr (Or.inr (Or.inr ⟨h, ?_⟩))
    have t := sx_roD (l := sx_l k n) h
    exact ⟨t.1, t.2.1, t.2.2, sx_nlD h⟩
/-- the open brackets: places before the gap, the innermost the last one, each a joining one -/
theorem sx_lo (k : Nat → Int32) (n : Nat) : (sx_l k n).length ≤ n ∧ (∀ o, o ∈ sx_l k n → o < n ∧ sx_r k o = 1) ∧ (sx_l k n).Pairwise (fun a b => b < a) := by
  induction n with
  | zero => exact ⟨Nat.le_refl 0, fun o h => absurd h List.not_mem_nil, List.Pairwise.nil⟩
  | succ n ih =>
    obtain ⟨i1, i2, i3⟩ := ih
    rcases sx_cs k n with ⟨_, _, _, hr, hl⟩ | ⟨_, _, _, hr, o, r, ho, hl⟩ | ⟨_, _, _, hr, ho, hl⟩ | ⟨_, _, _, _, hl⟩
    · rw [hl]
      refine ⟨?_, fun o ho => ?_, List.pairwise_cons.mpr ⟨fun b hb => (i2 b hb).1, i3⟩⟩
      · rw [List.length_cons]
        omega
      · rcases List.mem_cons.mp ho with e | e
        · rw [e]
          exact ⟨Nat.lt_succ_self n, hr⟩
        · exact ⟨Nat.lt_succ_of_lt (i2 o e).1, (i2 o e).2⟩
    · rw [ho] at i1 i2 i3
      rw [hl]
      rw [List.length_cons] at i1
      exact ⟨by omega, fun b hb => ⟨Nat.lt_succ_of_lt (i2 b (List.mem_cons_of_mem o hb)).1, (i2 b (List.mem_cons_of_mem o hb)).2⟩, (List.pairwise_cons.mp i3).2⟩
    · rw [hl]
      exact ⟨Nat.zero_le _, fun o h => absurd h List.not_mem_nil, List.Pairwise.nil⟩
    · rw [hl]
      exact ⟨by omega, fun o h => ⟨Nat.lt_succ_of_lt (i2 o h).1, (i2 o h).2⟩, i3⟩
/-- the links around: each bracket of the list knows the next one -/
def sx_ch (a : Nat → Int32) : List Nat → Prop
  | [] => True
  | o :: r => a o = sx_top r ∧ sx_ch a r
theorem sx_chain {k a : Nat → Int32} {N : Nat} (h : ∀ j, j < N → sx_r k j = 1 → a j = sx_top (sx_l k j)) : ∀ n, n ≤ N → sx_ch a (sx_l k n) := by
  intro n
  induction n with
  | zero => exact fun _ => trivial
  | succ n ih =>
    intro hn
    have t := ih (by omega)
    rcases sx_cs k n with ⟨_, _, _, hr, hl⟩ | ⟨_, _, _, hr, o, r, ho, hl⟩ | ⟨_, _, _, hr, ho, hl⟩ | ⟨_, _, _, _, hl⟩
    · rw [hl]
      exact ⟨h n (by omega) hr, t⟩
    · rw [ho] at t
      rw [hl]
      exact t.2
    · rw [hl]
      trivial
    · rw [hl]
      exact t
theorem sx_ps2 {k : Nat → Int32} {n o : Nat} {r : List Nat} (hr : sx_r k n = 2) (hl : sx_l k n = o :: r) : sx_p k (n + 1) = upd (upd (sx_p k n) n (nI o)) o (nI n) := by
  show (if sx_r k n = 2 then upd (upd (sx_p k n) n (sx_top (sx_l k n))) ((sx_l k n).headD 0) (nI n) else sx_p k n) = _
  rw [if_pos hr, hl]
  rfl
theorem sx_psn {k : Nat → Int32} {n : Nat} (hr : sx_r k n ≠ 2) : sx_p k (n + 1) = sx_p k n := by
  show (if sx_r k n = 2 then upd (upd (sx_p k n) n (sx_top (sx_l k n))) ((sx_l k n).headD 0) (nI n) else sx_p k n) = _
  rw [if_neg hr]
/-- who has a partner was read and is no longer open -/
theorem sx_pn (k : Nat → Int32) (n : Nat) : ∀ j, sx_p k n j ≠ -2 → j < n ∧ j ∉ sx_l k n := by
  induction n with
  | zero => exact fun j h => absurd rfl h
  | succ n ih =>
    intro j hj
    rcases sx_cs k n with ⟨_, _, _, hr, hl⟩ | ⟨_, _, _, hr, o, r, ho, hl⟩ | ⟨_, _, _, hr, ho, hl⟩ | ⟨_, _, hr, _, hl⟩
    · rw [sx_psn (by rw [hr]; decide)] at hj
      have t := ih j hj
      rw [hl]
      refine ⟨by omega, fun z => ?_⟩
      rcases List.mem_cons.mp z with e | e
      · exact absurd t.1 (by omega)
      · exact t.2 e
    · have L := sx_lo k n
      rw [ho] at L
      have P := List.pairwise_cons.mp L.2.2
      have Lo := (L.2.1 o List.mem_cons_self).1
      rw [sx_ps2 hr ho] at hj
      rw [hl]
      by_cases e : j = o
      · rw [e]
        exact ⟨by omega, fun z => absurd (P.1 o z) (by omega)⟩
      · rw [pk_un e] at hj
        by_cases e2 : j = n
        · rw [e2]
          exact ⟨by omega, fun z => absurd (L.2.1 n (List.mem_cons_of_mem o z)).1 (by omega)⟩
        · rw [pk_un e2] at hj
          have t := ih j hj
          rw [ho] at t
          exact ⟨by omega, fun z => t.2 (List.mem_cons_of_mem o z)⟩
    · rw [sx_psn (by rw [hr]; decide)] at hj
      have t := ih j hj
      rw [hl]
      exact ⟨by omega, List.not_mem_nil⟩
    · rw [sx_psn hr] at hj
      have t := ih j hj
      rw [hl]
      exact ⟨by omega, t.2⟩
/-- partners stay -/
theorem sx_pk {k : Nat → Int32} {n j : Nat} (h : sx_p k n j ≠ -2) : ∀ d, sx_p k (n + d) j = sx_p k n j := by
  intro d
  induction d with
  | zero => rfl
  | succ d ih =>
    have hj : sx_p k (n + d) j ≠ -2 := by
      rw [ih]
      exact h
    have t := sx_pn k (n + d) j hj
    rw [← ih]
    show sx_p k (n + d + 1) j = _
    rcases sx_cs k (n + d) with ⟨_, _, _, hr, hl⟩ | ⟨_, _, _, hr, o, r, ho, hl⟩ | ⟨_, _, _, hr, ho, hl⟩ | ⟨_, _, hr, _, hl⟩
    · rw [sx_psn (by rw [hr]; decide)]
    · rw [sx_ps2 hr ho]
      rw [ho] at t
      rw [pk_un (fun z => t.2 (by rw [z]; exact List.mem_cons_self)), pk_un (by omega)]
    · rw [sx_psn (by rw [hr]; decide)]
    · rw [sx_psn hr]
theorem sx_nI2 {n : Nat} (h : n < 2 ^ 31) : nI n ≠ -2 := by
  intro z
  have t := nI_pos h
  rw [z] at t
  exact t (by decide)
/-- a closing character and its opening one -/
theorem sx_pair {k : Nat → Int32} {n o : Nat} {r : List Nat} (hn : n < 8) (hr : sx_r k n = 2) (hl : sx_l k n = o :: r) : o < n ∧ sx_r k o = 1 ∧ sx_p k 8 n = nI o ∧ sx_p k 8 o = nI n := by
  have L := sx_lo k n
  rw [hl] at L
  have Lo := L.2.1 o List.mem_cons_self
  have l1 := Lo.1
  have e1 : sx_p k (n + 1) n = nI o := by
    rw [sx_ps2 hr hl, pk_un (by omega), pk_us]
  have e2 : sx_p k (n + 1) o = nI n := by
    rw [sx_ps2 hr hl, pk_us]
  have q1 := sx_pk (k := k) (n := n + 1) (j := n) (by rw [e1]; exact sx_nI2 (by omega)) (7 - n)
  have q2 := sx_pk (k := k) (n := n + 1) (j := o) (by rw [e2]; exact sx_nI2 (by omega)) (7 - n)
  rw [show n + 1 + (7 - n) = 8 by omega] at q1 q2
  exact ⟨l1, Lo.2, by rw [q1, e1], by rw [q2, e2]⟩
end
section
/-! the stack in nibbles, the paired bits, small shifts -/
def sx_bt (x : Int32) (i : Nat) : Bool := x.toBitVec.getLsbD i
theorem sx_b_or (x y : Int32) (i : Nat) : sx_bt (x ||| y) i = (sx_bt x i || sx_bt y i) := by unfold sx_bt; rw [Int32.toBitVec_or, BitVec.getLsbD_or]
theorem sx_b_and (x y : Int32) (i : Nat) : sx_bt (x &&& y) i = (sx_bt x i && sx_bt y i) := by unfold sx_bt; rw [Int32.toBitVec_and, BitVec.getLsbD_and]
theorem sx_b_0 (i : Nat) : sx_bt 0 i = false := BitVec.getLsbD_zero
theorem sx_s_l : ∀ n, n < 32 → ((nI n &&& 31).toBitVec.smod 32).toNat = n := by decide +kernel
theorem sx_b_sshr (n : Nat) (hn : n < 32) (x : Int32) {i : Nat} (hi : i < 32) : sx_bt (x >>> (nI n &&& 31)) i = if n + i < 32 then sx_bt x (n + i) else sx_bt x 31 := by
  unfold sx_bt
  rw [Int32.toBitVec_shiftRight]
  show (x.toBitVec.sshiftRight ((nI n &&& 31).toBitVec.smod 32).toNat).getLsbD i = _
  rw [sx_s_l n hn, BitVec.getLsbD_sshiftRight, BitVec.msb_eq_getLsbD_last]
  simp [hi]
theorem sx_one : ∀ n, n < 8 → sx_bt ((1 : Int32) <<< (nI n &&& 31)) n = true := by decide +kernel
theorem sx_b0 {x : Int32} {j : Nat} (hj : j < 8) (h : (x >>> (nI j &&& 31)) &&& 1 = 0) : sx_bt x j = false := by
  have t := sx_b_and (x >>> (nI j &&& 31)) 1 0
  rw [h, sx_b_0, sx_b_sshr j (by omega) x (by omega), if_pos (by omega)] at t
  have u : sx_bt 1 0 = true := by decide
  rw [u, Bool.and_true] at t
  exact t.symm
theorem sx_b1 {x : Int32} {i o j : Nat} (hi : i < 8) (ho : o < 8) (h : sx_bt (x ||| (((1 : Int32) <<< (nI i &&& 31)) ||| ((1 : Int32) <<< (nI o &&& 31)))) j = false) : sx_bt x j = false ∧ j ≠ i ∧ j ≠ o := by
  rw [sx_b_or, sx_b_or, Bool.or_eq_false_iff, Bool.or_eq_false_iff] at h
  refine ⟨h.1, fun z => ?_, fun z => ?_⟩
  · rw [z, sx_one i hi] at h
    exact absurd h.2.1 (by decide)
  · rw [z, sx_one o ho] at h
    exact absurd h.2.2 (by decide)
def sx_enc : List Nat → Nat
  | [] => 0
  | o :: r => 16 * sx_enc r + o
theorem sx_enc_lt (l : List Nat) (h : ∀ o, o ∈ l → o < 16) : sx_enc l < 16 ^ l.length := by
  induction l with
  | nil => exact Nat.one_pos
  | cons o r ih =>
    have t := ih (fun b hb => h b (List.mem_cons_of_mem o hb))
    have u := h o List.mem_cons_self
    show 16 * sx_enc r + o < 16 ^ (r.length + 1)
    rw [Nat.pow_succ]
    omega
theorem sx_enc7 (k : Nat → Int32) {n : Nat} (hn : n ≤ 7) : sx_enc (sx_l k n) < 2 ^ 28 := by
  have L := sx_lo k n
  have t := sx_enc_lt (sx_l k n) (fun o ho => by have := (L.2.1 o ho).1; omega)
  have u : 16 ^ (sx_l k n).length ≤ 16 ^ 7 := Nat.pow_le_pow_right (by decide) (by have := L.1; omega)
  have v : (16 : Nat) ^ 7 = 2 ^ 28 := by decide
  omega
theorem sx_or (a b : Nat) : nI a ||| nI b = nI (a ||| b) := by
  apply Int32.toBitVec_inj.1
  show BitVec.ofNat 32 a ||| BitVec.ofNat 32 b = BitVec.ofNat 32 (a ||| b)
  apply BitVec.eq_of_getLsbD_eq
  intro i hi
  simp [hi]
theorem sx_push {E i : Nat} (hE : E < 2 ^ 28) (hi : i < 16) : (nI E <<< ((4 : Int32) &&& 31)) ||| nI i = nI (16 * E + i) := by
  rw [pk_shlN ((4 : Int32) &&& 31) 4 (by decide) (by omega), sx_or]
  have t := Nat.two_pow_add_eq_or_of_lt (i := 4) (b := i) (by omega) E
  rw [Nat.mul_comm E, ← t]
theorem sx_peek {E o : Nat} (ho : o < 16) (h : 16 * E + o < 2 ^ 28) : nI (16 * E + o) &&& 15 = nI o := by
  rw [pk_andN (by omega) 4 (by decide), show (16 * E + o) % 2 ^ 4 = o by omega]
theorem sx_pop {E o : Nat} (ho : o < 16) (h : 16 * E + o < 2 ^ 28) : (nI (16 * E + o) >>> ((4 : Int32) &&& 31)) &&& 268435455 = nI E := by
  rw [pk_shrN (by omega) ((4 : Int32) &&& 31) 4 (by decide), show (16 * E + o) / 2 ^ 4 = E by omega, pk_andN (by omega) 28 (by decide), Nat.mod_eq_of_lt (by omega)]
theorem sx_sh4 : ∀ n, n < 9 → nI n >>> ((4 : Int32) &&& 31) = 0 := by decide +kernel
theorem sx_m16 : ∀ n, n < 9 → nI n &&& (-16) = 0 := by decide +kernel
theorem sx_a15 : ∀ n, n < 9 → nI n &&& 15 = nI n := by decide +kernel
end
section
/-! note, step, readTo, stateAt against the picture -/
/-- n characters are noted; the kept state 0 is the first one -/
def sx_K (k : Nat → Int32) (n : Nat) (a1 a2 a3 a4 a5 a6 a7 : Nat → Int32) : Prop :=
  (∀ j, j < 8 → a1 j = k j) ∧ (∀ j, j < n → a2 j = sx_r k j) ∧ (∀ j, j < n → a3 j = sx_p k n j) ∧ (∀ j, j < n → sx_r k j = 1 → a4 j = sx_top (sx_l k j)) ∧ a5 0 = 0 ∧ a6 0 = 0 ∧ a7 0 = -2
/-- the object: 8 characters, n of them noted -/
def sx_U (k : Nat → Int32) (n : Nat) (u : St2) : Prop := match u with
  | (f1, f2, _, _, _, a1, a2, a3, a4, a5, a6, a7) => n ≤ 8 ∧ f1 = nI 8 ∧ f2 = nI n ∧ sx_K k n a1 a2 a3 a4 a5 a6 a7
theorem sx_mk {k : Nat → Int32} {n : Nat} {f3 f4 f5 : Int32} {a1 a2 a3 a4 a5 a6 a7 : Nat → Int32} (hn : n ≤ 8) (h : sx_K k n a1 a2 a3 a4 a5 a6 a7) : sx_U k n (nI 8, nI n, f3, f4, f5, a1, a2, a3, a4, a5, a6, a7) :=
  And.intro hn (And.intro rfl (And.intro rfl h))
theorem sx_noteW {post : St2 → Prop} {ln kn m e c : Int32} {l : List Nat} {n : Nat} {a1 a2 a3 a4 a5 a6 a7 : Nat → Int32} (hn : n < 8) (hc : a1 n = c) (hl : ∀ o, o ∈ l → o < n)
    (H : ∀ b2 b3 b4 : Nat → Int32, (∀ j, j < n → b2 j = a2 j) → b2 n = sx_ro c m e l →
      b3 = (if sx_ro c m e l = 2 then upd (upd (upd a3 n (-2)) n (sx_top l)) (l.headD 0) (nI n) else upd a3 n (-2)) →
      (∀ j, j < n → b4 j = a4 j) → (sx_ro c m e l = 1 → b4 n = sx_top l) → post (ln, kn, m, e, sx_top l, a1, b2, b3, b4, a5, a6, a7)) :
    wpX_note post (ln, kn, m, e, sx_top l, a1, a2, a3, a4, a5, a6, a7) (nI n) := by
  have cl : (nI n).toNatClampNeg = n := nI_clamp (by omega)
  have i64 : vp_in (nI n) 64 := pk_in n 64 (by omega)
  have leaf : ∀ v : Int32, v ≠ 1 → v ≠ 2 → sx_ro c m e l = v → ∀ b2 : Nat → Int32, (∀ j, j < n → b2 j = a2 j) → b2 n = v → post (ln, kn, m, e, sx_top l, a1, b2, upd a3 n (-2), a4, a5, a6, a7) := by
    intro v v1 v2 hv b2 h1 h2
    exact H b2 _ a4 h1 (by rw [h2, hv]) (by rw [if_neg (by rw [hv]; exact v2)]) (fun _ _ => rfl) (fun z => absurd (hv.symm.trans z) v1)
  have u0 : ∀ (v : Int32) (j : Nat), j < n → upd (upd a2 n 0) n v j = a2 j := fun v j hj => by rw [pk_un (by omega), pk_un (by omega)]
  have u1 : ∀ (j : Nat), j < n → upd a2 n 0 j = a2 j := fun j hj => by rw [pk_un (by omega)]
  unfold wpX_note wX_note_105
  dsimp only
  rw [cl, hc]
  refine And.intro i64 (nm_e (And.intro i64 (nm_e (And.intro i64 (nm_e ?_)))))
  by_cases hm : m = 0
  · refine br_t hm ?_
    by_cases he : e = 0
    · refine br_t he ?_
      by_cases h0 : c = 0
      · exact br_t h0 ⟨i64, nm_e (leaf 6 (by decide) (by decide) (by rw [hm, he, h0]; rfl) _ (u0 6) pk_us)⟩
      refine br_f h0 ?_
      by_cases h5 : c = 5
      · exact br_t h5 ⟨i64, nm_e (leaf 6 (by decide) (by decide) (by rw [hm, he, h5]; rfl) _ (u0 6) pk_us)⟩
      refine br_f h5 ?_
      by_cases h2 : c = 2
      · have hr : sx_ro c m e l = 1 := by rw [hm, he, h2]; rfl
        refine br_t h2 ⟨i64, nm_e ⟨i64, nm_e (H _ _ _ (u0 1) (by rw [pk_us, hr]) (by rw [if_neg (by rw [hr]; decide)]) (fun j hj => pk_un (by omega)) (fun _ => pk_us))⟩⟩
      refine br_f h2 ?_
      by_cases h3 : c = 3
      · refine br_t h3 ?_
        cases l with
        | nil => exact br_t rfl ⟨i64, nm_e (br_t rfl (leaf 3 (by decide) (by decide) (by rw [hm, he, h3]; rfl) _ (u0 3) pk_us))⟩
        | cons o r =>
          have ho := hl o List.mem_cons_self
          have hr : sx_ro c m e (o :: r) = 2 := by rw [hm, he, h3]; rfl
          have hN : ¬ sx_top (o :: r) = -2 := sx_nI2 (by omega)
          have hcl : (sx_top (o :: r)).toNatClampNeg = o := nI_clamp (by omega)
          refine br_f hN ⟨i64, nm_e (br_f hN ⟨i64, nm_e ⟨pk_in o 64 (by omega), nm_r (e' := upd (upd (upd a3 n (-2)) n (nI o)) o (nI n)) (by rw [hcl]; rfl) (H _ _ _ (u0 2) (by rw [pk_us, hr]) (by rw [if_pos hr]; rfl) (fun j hj => rfl) (fun z => absurd (hr.symm.trans z) (by decide)))⟩⟩)⟩
      refine br_f h3 ?_
      by_cases h4 : c = 4
      · exact br_t h4 ⟨i64, nm_e (leaf 4 (by decide) (by decide) (by rw [hm, he, h4]; rfl) _ (u0 4) pk_us)⟩
      · exact br_f h4 (leaf 0 (by decide) (by decide) (by unfold sx_ro; rw [if_pos hm, if_pos he, if_neg h0, if_neg h5, if_neg h2, if_neg h3, if_neg h4]) _ u1 pk_us)
    · exact br_f he ⟨i64, nm_e (leaf 6 (by decide) (by decide) (by unfold sx_ro; rw [if_pos hm, if_neg he]) _ (u0 6) pk_us)⟩
  · refine br_f hm ?_
    by_cases h1 : m = 1
    · refine br_t h1 ?_
      by_cases he : e = 0
      · refine br_t he ?_
        by_cases h4 : c = 4
        · exact br_t h4 ⟨i64, nm_e (leaf 5 (by decide) (by decide) (by unfold sx_ro; rw [if_neg hm, if_pos h1, if_pos he, if_pos h4]) _ (u0 5) pk_us)⟩
        · exact br_f h4 (leaf 0 (by decide) (by decide) (by unfold sx_ro; rw [if_neg hm, if_pos h1, if_pos he, if_neg h4]) _ u1 pk_us)
      · exact br_f he (leaf 0 (by decide) (by decide) (by unfold sx_ro; rw [if_neg hm, if_pos h1, if_neg he]) _ u1 pk_us)
    · exact br_f h1 (leaf 0 (by decide) (by decide) (by unfold sx_ro; rw [if_neg hm, if_neg h1]) _ u1 pk_us)
theorem sx_note {post : St2 → Prop} {ln kn : Int32} {k : Nat → Int32} {n : Nat} {a1 a2 a3 a4 a5 a6 a7 : Nat → Int32} (hn : n < 8) (h : sx_K k n a1 a2 a3 a4 a5 a6 a7)
    (H : ∀ b2 b3 b4 : Nat → Int32, sx_K k (n + 1) a1 b2 b3 b4 a5 a6 a7 → post (ln, kn, sx_m k n, sx_e k n, sx_top (sx_l k n), a1, b2, b3, b4, a5, a6, a7)) :
    wpX_note post (ln, kn, sx_m k n, sx_e k n, sx_top (sx_l k n), a1, a2, a3, a4, a5, a6, a7) (nI n) := by
  refine sx_noteW hn (h.1 n hn) (fun o ho => ((sx_lo k n).2.1 o ho).1) (fun b2 b3 b4 h2 h2' h3 h4 h4' => H b2 b3 b4 ⟨h.1, ?_, ?_, ?_, h.2.2.2.2⟩)
  · exact lt_s (fun j hj => (h2 j hj).trans (h.2.1 j hj)) h2'
  · intro j hj
    have base : upd a3 n (-2) j = sx_p k n j := by
      by_cases e : j = n
      · rw [e, pk_us]
        by_cases z : sx_p k n n = -2
        · exact z.symm
        · exact absurd (sx_pn k n n z).1 (by omega)
      · rw [pk_un e]
        exact h.2.2.1 j (by omega)
    by_cases hr : sx_ro (k n) (sx_m k n) (sx_e k n) (sx_l k n) = 2
    · rw [if_pos hr] at h3
      have hp : sx_p k (n + 1) = upd (upd (sx_p k n) n (sx_top (sx_l k n))) ((sx_l k n).headD 0) (nI n) := if_pos hr
      rw [h3, hp]
      by_cases e1 : j = (sx_l k n).headD 0
      · rw [e1, pk_us, pk_us]
      · rw [pk_un e1, pk_un e1]
        by_cases e2 : j = n
        · rw [e2, pk_us, pk_us]
        · rw [pk_un e2 (f := upd a3 n (-2)), pk_un e2 (f := sx_p k n)]
          exact base
    · rw [if_neg hr] at h3
      rw [h3, sx_psn hr]
      exact base
  · exact lt_s (p := fun j => sx_r k j = 1 → b4 j = sx_top (sx_l k j)) (fun j hj hr => (h4 j hj).trans (h.2.2.2.1 j hj hr)) h4'
theorem sx_stepW {post : St2 → Prop} {ln kn m e c : Int32} {l : List Nat} {n : Nat} {a1 a2 a3 a4 a5 a6 a7 : Nat → Int32} (hn : n < 8) (hc : a1 n = c) (hl : ∀ o, o ∈ l → o < 64) (hch : sx_ch a4 l)
    (H : post (ln, kn, sx_nm c m e, sx_ne c m e, sx_top (sx_nl c m e n l), a1, a2, a3, a4, a5, a6, a7)) :
    wpX_step post (ln, kn, m, e, sx_top l, a1, a2, a3, a4, a5, a6, a7) (nI n) := by
  have cl : (nI n).toNatClampNeg = n := nI_clamp (by omega)
  have i64 : vp_in (nI n) 64 := pk_in n 64 (by omega)
  unfold wpX_step wX_step_71 wX_step_101 wX_step_137
  dsimp only
  rw [cl, hc]
  refine And.intro i64 (nm_e ?_)
  unfold sx_nm sx_ne sx_nl at H
  by_cases he : e = 0
  · subst he
    refine br_t rfl ?_
    rw [if_pos rfl, if_pos rfl, if_pos rfl] at H
    by_cases hm : m = 0
    · subst hm
      refine br_t rfl ?_
      rw [if_pos rfl, if_pos rfl, if_pos rfl] at H
      by_cases h2 : c = 2
      · rw [if_neg (show ¬ c = 4 by rw [h2]; decide), if_neg (show ¬ c = 6 by rw [h2]; decide), if_neg (show ¬ c = 5 by rw [h2]; decide), if_pos h2] at H
        exact br_t h2 (br_f (by rw [h2]; decide) H)
      rw [if_neg h2] at H
      refine br_f h2 ?_
      by_cases h3 : c = 3
      · rw [if_neg (show ¬ c = 4 by rw [h3]; decide), if_neg (show ¬ c = 6 by rw [h3]; decide), if_neg (show ¬ c = 5 by rw [h3]; decide), if_pos h3] at H
        refine br_t h3 ?_
        have n5 : ¬ c = 5 := by rw [h3]; decide
        cases l with
        | nil => exact br_t rfl (br_f n5 H)
        | cons o r =>
          have ho := hl o List.mem_cons_self
          have hcl : (sx_top (o :: r)).toNatClampNeg = o := nI_clamp (by omega)
          refine br_f (sx_nI2 (by omega)) ⟨pk_in o 64 ho, br_f n5 ?_⟩
          rw [hcl, hch.1]
          exact H
      rw [if_neg h3] at H
      refine br_f h3 ?_
      by_cases h4 : c = 4
      · rw [if_pos h4, if_neg (show ¬ c = 5 by rw [h4]; decide)] at H
        exact br_t h4 (br_f (by rw [h4]; decide) H)
      rw [if_neg h4] at H
      refine br_f h4 ?_
      by_cases h6 : c = 6
      · rw [if_pos h6, if_neg (show ¬ c = 5 by rw [h6]; decide)] at H
        exact br_t h6 (br_f (by rw [h6]; decide) H)
      rw [if_neg h6] at H
      refine br_f h6 ?_
      by_cases h5 : c = 5
      · rw [if_pos h5] at H
        exact br_t h5 H
      · rw [if_neg h5] at H
        exact br_f h5 H
    · refine br_f hm ?_
      rw [if_neg hm, if_neg hm, if_neg hm] at H
      by_cases h1 : m = 1
      · rw [if_pos h1, if_pos h1] at H
        refine br_t h1 ?_
        by_cases h4 : c = 4
        · rw [if_pos h4, if_neg (show ¬ c = 5 by rw [h4]; decide)] at H
          exact br_t h4 (br_f (by rw [h4]; decide) H)
        · rw [if_neg h4] at H
          refine br_f h4 ?_
          by_cases h5 : c = 5
          · rw [if_pos h5] at H
            exact br_t h5 H
          · rw [if_neg h5] at H
            exact br_f h5 H
      · rw [if_neg h1, if_neg h1] at H
        refine br_f h1 ?_
        by_cases h7 : c = 7
        · rw [if_pos h7] at H
          exact br_t h7 H
        · rw [if_neg h7] at H
          exact br_f h7 H
  · rw [if_neg he, if_neg he, if_neg he] at H
    exact br_f he H
theorem sx_step {post : St2 → Prop} {ln kn : Int32} {k : Nat → Int32} {n N : Nat} {a1 a2 a3 a4 a5 a6 a7 : Nat → Int32} (hn : n < 8) (hN : n ≤ N) (h : sx_K k N a1 a2 a3 a4 a5 a6 a7)
    (H : post (ln, kn, sx_m k (n + 1), sx_e k (n + 1), sx_top (sx_l k (n + 1)), a1, a2, a3, a4, a5, a6, a7)) :
    wpX_step post (ln, kn, sx_m k n, sx_e k n, sx_top (sx_l k n), a1, a2, a3, a4, a5, a6, a7) (nI n) :=
  sx_stepW hn (h.1 n hn) (fun o ho => by have := ((sx_lo k n).2.1 o ho).1; omega) (sx_chain h.2.2.2.1 n hN) H
theorem sx_load {post : St2 → Prop} {ln kn m e i p : Int32} {a1 a2 a3 a4 a5 a6 a7 : Nat → Int32} (hp : p = 0) (h5 : a5 0 = 0) (h6 : a6 0 = 0) (h7 : a7 0 = -2)
    (H : post (ln, kn, 0, 0, -2, a1, a2, a3, a4, a5, a6, a7)) : wpX_load post (ln, kn, m, e, i, a1, a2, a3, a4, a5, a6, a7) p := by
  subst hp
  have i0 : vp_in 0 5 := pk_in 0 5 (by omega)
  unfold wpX_load
  dsimp only
  rw [sb_cl0, h5, h6, h7]
  exact ⟨i0, nm_e ⟨i0, nm_e ⟨rfl, rfl, i0, nm_e H⟩⟩⟩
theorem sx_keep {post : St2 → Prop} {ln kn p : Int32} {a1 a2 a3 a4 a5 a6 a7 : Nat → Int32} (hp : p = 0)
    (H : post (ln, kn, 0, 0, -2, a1, a2, a3, a4, upd a5 0 0, upd a6 0 0, upd a7 0 (-2))) : wpX_keep post (ln, kn, 0, 0, -2, a1, a2, a3, a4, a5, a6, a7) p := by
  subst hp
  have i0 : vp_in 0 5 := pk_in 0 5 (by omega)
  have v0 : vp_nar .boolean 0 = 0 := rfl
  unfold wpX_keep
  dsimp only
  rw [sb_cl0, v0]
  exact ⟨i0, nm_e ⟨i0, nm_e ⟨i0, nm_e H⟩⟩⟩
theorem sx_rd {post : St2 → Prop} {k : Nat → Int32} {g : Nat} {kn : Int32} {a1 : Nat → Int32} (hg : g ≤ 8) (g0 : 0 < g)
    (H : ∀ a2 a3 a4 a5 a6 a7 : Nat → Int32, sx_K k g a1 a2 a3 a4 a5 a6 a7 → post (nI 8, nI g, sx_m k g, sx_e k g, sx_top (sx_l k g), a1, a2, a3, a4, a5, a6, a7)) :
    ∀ d n : Nat, n + d = g → ∀ a2 a3 a4 a5 a6 a7 : Nat → Int32, sx_K k n a1 a2 a3 a4 a5 a6 a7 →
      wX_readTo_27 post (nI g) (d + 1) (nI n) (nI 8) kn (sx_m k n) (sx_e k n) (sx_top (sx_l k n)) a1 a2 a3 a4 a5 a6 a7 := by
  intro d
  induction d with
  | zero =>
    intro n hn a2 a3 a4 a5 a6 a7 h
    have e : n = g := by omega
    subst e
    refine pk_le n n (fun _ => br_f ?_ (H a2 a3 a4 a5 a6 a7 h)) (fun z => absurd z (by omega))
    rw [sx_a15 n (by omega)]
    exact nI_ne0 g0 (by omega)
  | succ d ih =>
    intro n hn a2 a3 a4 a5 a6 a7 h
    refine pk_le g n (fun z => absurd z (by omega)) (fun z => ?_)
    have main : ∀ a5 a6 a7 : Nat → Int32, sx_K k n a1 a2 a3 a4 a5 a6 a7 →
        wX_readTo_46 post (wX_readTo_27 post (nI g) (d + 1)) (nI g) (nI n) (nI 8) kn (sx_m k n) (sx_e k n) (sx_top (sx_l k n)) a1 a2 a3 a4 a5 a6 a7 := by
      intro a5 a6 a7 h
      unfold wX_readTo_46
      refine sx_note (by omega) h (fun b2 b3 b4 h' => ?_)
      exact sx_step (by omega) (Nat.le_succ n) h' (nm_r (nI_1 n) (ih (n + 1) (by omega) _ _ _ _ _ _ h'))
    by_cases n0 : n = 0
    · subst n0
      refine br_t (sx_a15 0 (by omega)) ?_
      refine sx_keep (sx_sh4 0 (by omega)) (main _ _ _ ⟨h.1, h.2.1, h.2.2.1, h.2.2.2.1, pk_us, pk_us, pk_us⟩)
    · refine br_f ?_ (main a5 a6 a7 h)
      rw [sx_a15 n (by omega)]
      exact nI_ne0 (by omega) (by omega)
theorem sx_K0 {k : Nat → Int32} {n : Nat} {a1 a2 a3 a4 a5 a6 a7 : Nat → Int32} (h : sx_K k n a1 a2 a3 a4 a5 a6 a7) : sx_K k 0 a1 a2 a3 a4 a5 a6 a7 :=
  ⟨h.1, fun j hj => absurd hj (by omega), fun j hj => absurd hj (by omega), fun j hj => absurd hj (by omega), h.2.2.2.2⟩
theorem sx_readTo {post : St2 → Prop} {k : Nat → Int32} {n g : Nat} {m e i : Int32} {a1 a2 a3 a4 a5 a6 a7 : Nat → Int32} (hn : n ≤ 8) (hg : g ≤ 8) (h : sx_K k n a1 a2 a3 a4 a5 a6 a7)
    (H : ∀ (n' : Nat) (m e i : Int32) (a2 a3 a4 a5 a6 a7 : Nat → Int32), g ≤ n' → n' ≤ 8 → sx_K k n' a1 a2 a3 a4 a5 a6 a7 → post (nI 8, nI n', m, e, i, a1, a2, a3, a4, a5, a6, a7)) :
    wpX_readTo post (nI 8, nI n, m, e, i, a1, a2, a3, a4, a5, a6, a7) (nI g) := by
  refine pk_lt n g (fun z => ?_) (fun z => H n m e i a2 a3 a4 a5 a6 a7 z hn h)
  refine sx_load (sx_sh4 n (by omega)) h.2.2.2.2.1 h.2.2.2.2.2.1 h.2.2.2.2.2.2 ?_
  exact nm_r (sx_m16 n (by omega)) ⟨g + 1, sx_rd hg (by omega) (fun b2 b3 b4 b5 b6 b7 h' => H g _ _ _ b2 b3 b4 b5 b6 b7 (Nat.le_refl g) hg h') g 0 (by omega) a2 a3 a4 a5 a6 a7 (sx_K0 h)⟩
theorem sx_sa {post : St2 → Prop} {k : Nat → Int32} {g N : Nat} {kn : Int32} {a1 a2 a3 a4 a5 a6 a7 : Nat → Int32} (hg : g ≤ 8) (hN : g ≤ N) (h : sx_K k N a1 a2 a3 a4 a5 a6 a7)
    (H : post (nI 8, kn, sx_m k g, sx_e k g, sx_top (sx_l k g), a1, a2, a3, a4, a5, a6, a7)) :
    ∀ d n : Nat, n + d = g → wX_stateAt_17 post (nI g) (d + 1) (nI n) (nI 8) kn (sx_m k n) (sx_e k n) (sx_top (sx_l k n)) a1 a2 a3 a4 a5 a6 a7 := by
  intro d
  induction d with
  | zero =>
    intro n hn
    have e : n = g := by omega
    subst e
    exact pk_le n n (fun _ => H) (fun z => absurd z (by omega))
  | succ d ih =>
    intro n hn
    refine pk_le g n (fun z => absurd z (by omega)) (fun z => ?_)
    exact sx_step (by omega) (by omega) h (nm_r (nI_1 n) (ih (n + 1) (by omega)))
theorem sx_stateAt {post : St2 → Prop} {k : Nat → Int32} {n g : Nat} {m e i : Int32} {a1 a2 a3 a4 a5 a6 a7 : Nat → Int32} (hn : n ≤ 8) (hg : g ≤ 8) (h : sx_K k n a1 a2 a3 a4 a5 a6 a7)
    (H : ∀ (n' : Nat) (a2 a3 a4 a5 a6 a7 : Nat → Int32), g ≤ n' → n' ≤ 8 → sx_K k n' a1 a2 a3 a4 a5 a6 a7 → post (nI 8, nI n', sx_m k g, sx_e k g, sx_top (sx_l k g), a1, a2, a3, a4, a5, a6, a7)) :
    wpX_stateAt post (nI 8, nI n, m, e, i, a1, a2, a3, a4, a5, a6, a7) (nI g) := by
  unfold wpX_stateAt
  dsimp only
  refine sx_readTo hn hg h (fun n' m' e' i' b2 b3 b4 b5 b6 b7 hg' hn' h' => ?_)
  refine sx_load (sx_sh4 g (by omega)) h'.2.2.2.2.1 h'.2.2.2.2.2.1 h'.2.2.2.2.2.2 ?_
  exact nm_r (sx_m16 g (by omega)) ⟨g + 1, sx_sa hg hg' h' (H n' b2 b3 b4 b5 b6 b7 hg' hn' h') g 0 (by omega)⟩
end
section
/-! one lemma a method -/
theorem sx_isGap {post : Int32 → Prop} {f2 f3 f4 f5 : Int32} {a1 a2 a3 a4 a5 a6 a7 : Nat → Int32} {g : Nat} (hg : g ≤ 8) (H : post 1) : wpX_isGap post (nI 8, f2, f3, f4, f5, a1, a2, a3, a4, a5, a6, a7) (nI g) :=
  pk_lt g 0 (fun z => absurd z (by omega)) (fun _ => pk_lt 8 g (fun z => absurd z (by omega)) (fun _ => H))
theorem sx_isPlace {post : Int32 → Prop} {f2 f3 f4 f5 : Int32} {a1 a2 a3 a4 a5 a6 a7 : Nat → Int32} {g : Nat} (hg : g < 8) (H : post 1) : wpX_isPlace post (nI 8, f2, f3, f4, f5, a1, a2, a3, a4, a5, a6, a7) (nI g) :=
  pk_lt g 0 (fun z => absurd z (by omega)) (fun _ => pk_le 8 g (fun z => absurd z (by omega)) (fun _ => H))
theorem sx_mode {post : Int32 → St2 → Prop} {k : Nat → Int32} {n g : Nat} {u : St2} (hg : g ≤ 8) (h : sx_U k n u) (H : ∀ (n' : Nat) (u' : St2), sx_U k n' u' → post (sx_m k g) u') : wpX_mode post u (nI g) := by
  obtain ⟨f1, f2, f3, f4, f5, a1, a2, a3, a4, a5, a6, a7⟩ := u
  obtain ⟨hn, rfl, rfl, hK⟩ := h
  unfold wpX_mode
  dsimp only
  exact sx_isGap hg (br_f (by decide) (sx_stateAt hn hg hK (fun n' b2 b3 b4 b5 b6 b7 _ hn' hK' => H n' _ (sx_mk hn' hK'))))
theorem sx_mode9 {post : Int32 → St2 → Prop} {k : Nat → Int32} {n : Nat} {u : St2} (h : sx_U k n u) (H : post (-1) u) : wpX_mode post u 9 := by
  obtain ⟨f1, f2, f3, f4, f5, a1, a2, a3, a4, a5, a6, a7⟩ := u
  obtain ⟨hn, rfl, rfl, hK⟩ := h
  unfold wpX_mode
  dsimp only
  exact pk_lt 9 0 (fun z => absurd z (by omega)) (fun _ => pk_lt 8 9 (fun _ => br_t rfl H) (fun z => absurd z (by omega)))
theorem sx_escaped {post : Int32 → St2 → Prop} {k : Nat → Int32} {n g : Nat} {u : St2} (hg : g ≤ 8) (h : sx_U k n u) (H : ∀ (n' : Nat) (u' : St2), sx_U k n' u' → post (sx_e k g) u') : wpX_escaped post u (nI g) := by
  obtain ⟨f1, f2, f3, f4, f5, a1, a2, a3, a4, a5, a6, a7⟩ := u
  obtain ⟨hn, rfl, rfl, hK⟩ := h
  unfold wpX_escaped
  dsimp only
  refine sx_isGap hg (br_f (by decide) (sx_stateAt hn hg hK (fun n' b2 b3 b4 b5 b6 b7 _ hn' hK' => ?_)))
  have t := H n' (nI 8, nI n', sx_m k g, sx_e k g, sx_top (sx_l k g), a1, b2, b3, b4, b5, b6, b7) (sx_mk hn' hK')
  rcases sx_e2 k g with e | e
  · rw [e] at t ⊢
    exact br_t rfl t
  · rw [e] at t ⊢
    exact br_f (show ¬ (1 : Int32) = 0 by decide) t
theorem sx_dep {post : Int32 → Prop} {f1 f2 f3 f4 f5 : Int32} {a1 a2 a3 a4 a5 a6 a7 : Nat → Int32} : ∀ (l : List Nat) (t : Nat), t + l.length ≤ 8 → (∀ o, o ∈ l → o < 8) → sx_ch a4 l → post (nI (t + l.length)) →
    wX_depthOf_7 post f1 f2 f3 f4 f5 a1 a2 a3 a4 a5 a6 a7 (l.length + 1) (nI t) (sx_top l) (nI t) := by
  intro l
  induction l with
  | nil =>
    intro t ht _ _ H
    exact pk_le 64 t (fun z => absurd z (by rw [List.length_nil] at ht; omega)) (fun _ => br_t rfl H)
  | cons o r ih =>
    intro t ht hl hc H
    rw [List.length_cons] at ht
    have ho := hl o List.mem_cons_self
    have hcl : (sx_top (o :: r)).toNatClampNeg = o := nI_clamp (by omega)
    refine pk_le 64 t (fun z => absurd z (by omega)) (fun _ => br_f (sx_nI2 (by omega)) (nm_r (nI_1 t) ⟨pk_in o 64 (by omega), nm_r (by rw [hcl, hc.1]) (nm_r (nI_1 t) ?_)⟩))
    refine ih (t + 1) (by omega) (fun b hb => hl b (List.mem_cons_of_mem o hb)) hc.2 ?_
    rw [show t + 1 + r.length = t + (o :: r).length by rw [List.length_cons]; omega]
    exact H
theorem sx_depthOf {post : Int32 → Prop} {f1 f2 f3 f4 f5 : Int32} {k a1 a2 a3 a4 a5 a6 a7 : Nat → Int32} {g n : Nat} (hg : g ≤ 8) (hn : g ≤ n) (h : sx_K k n a1 a2 a3 a4 a5 a6 a7) (H : post (nI (sx_l k g).length)) :
    wpX_depthOf post (f1, f2, f3, f4, f5, a1, a2, a3, a4, a5, a6, a7) (sx_top (sx_l k g)) := by
  have L := sx_lo k g
  have L1 := L.1
  refine ⟨(sx_l k g).length + 1, sx_dep (sx_l k g) 0 (by omega) (fun o ho => by have := (L.2.1 o ho).1; omega) (sx_chain h.2.2.2.1 g hn) ?_⟩
  rw [Nat.zero_add]
  exact H
theorem sx_depth {post : Int32 → St2 → Prop} {k : Nat → Int32} {n g : Nat} {u : St2} (hg : g ≤ 8) (h : sx_U k n u) (H : ∀ (n' : Nat) (u' : St2), sx_U k n' u' → post (nI (sx_l k g).length) u') : wpX_depth post u (nI g) := by
  obtain ⟨f1, f2, f3, f4, f5, a1, a2, a3, a4, a5, a6, a7⟩ := u
  obtain ⟨hn, rfl, rfl, hK⟩ := h
  unfold wpX_depth
  dsimp only
  exact sx_isGap hg (br_f (by decide) (sx_stateAt hn hg hK (fun n' b2 b3 b4 b5 b6 b7 hg' hn' hK' => sx_depthOf hg hg' hK' (H n' _ (sx_mk hn' hK')))))
theorem sx_up {post : Int32 → St2 → Prop} {k : Nat → Int32} {n g : Nat} {u : St2} (hg : g ≤ 8) (h : sx_U k n u) (H : ∀ (n' : Nat) (u' : St2), sx_U k n' u' → post (sx_top (sx_l k g)) u') : wpX_up post u (nI g) := by
  obtain ⟨f1, f2, f3, f4, f5, a1, a2, a3, a4, a5, a6, a7⟩ := u
  obtain ⟨hn, rfl, rfl, hK⟩ := h
  unfold wpX_up
  dsimp only
  exact sx_isGap hg (br_f (by decide) (sx_stateAt hn hg hK (fun n' b2 b3 b4 b5 b6 b7 _ hn' hK' => H n' _ (sx_mk hn' hK'))))
theorem sx_bracketAt {post : Int32 → St2 → Prop} {k : Nat → Int32} {n g : Nat} {u : St2} (hg : g ≤ 8) (h : sx_U k n u) (H : ∀ (n' : Nat) (u' : St2), sx_U k n' u' → post (-2) u') : wpX_bracketAt post u (nI g) (nI (sx_l k g).length) := by
  obtain ⟨f1, f2, f3, f4, f5, a1, a2, a3, a4, a5, a6, a7⟩ := u
  obtain ⟨hn, rfl, rfl, hK⟩ := h
  have L := (sx_lo k g).1
  have q1 : ¬ nI (sx_l k g).length < 0 := nI_pos (by omega)
  have q2 : ¬ nI (sx_l k g).length < nI (sx_l k g).length := nI_nlt (Nat.le_refl _) (by omega)
  unfold wpX_bracketAt
  dsimp only
  refine sx_isGap hg (br_f (by decide) ?_)
  refine sx_stateAt hn hg hK (fun n' b2 b3 b4 b5 b6 b7 hg' hn' hK' => ?_)
  refine sx_depthOf hg hg' hK' ?_
  exact br_f q1 (br_f q2 (H n' _ (sx_mk hn' hK')))
/-- what partner answers -/
def sx_pv (k : Nat → Int32) (j : Nat) : Int32 := if sx_r k j = 1 then sx_p k 8 j else if sx_r k j = 2 then sx_p k 8 j else -2
theorem sx_partner {post : Int32 → St2 → Prop} {k : Nat → Int32} {n j : Nat} {u : St2} (hj : j < 8) (h : sx_U k n u) (H : ∀ u' : St2, sx_U k 8 u' → post (sx_pv k j) u') : wpX_partner post u (nI j) := by
  obtain ⟨f1, f2, f3, f4, f5, a1, a2, a3, a4, a5, a6, a7⟩ := u
  obtain ⟨hn, rfl, rfl, hK⟩ := h
  have cl : (nI j).toNatClampNeg = j := nI_clamp (by omega)
  have i64 : vp_in (nI j) 64 := pk_in j 64 (by omega)
  unfold wpX_partner
  dsimp only
  refine sx_isPlace hj (br_f (by decide) (sx_readTo hn (Nat.le_refl 8) hK (fun n' m e i b2 b3 b4 b5 b6 b7 hg' hn' hK' => ?_)))
  have e8 : n' = 8 := by omega
  subst e8
  have t := H (nI 8, nI 8, m, e, i, a1, b2, b3, b4, b5, b6, b7) (sx_mk hn' hK')
  dsimp only
  rw [cl, hK'.2.1 j hj, hK'.2.2.1 j hj]
  unfold sx_pv at t
  by_cases r1 : sx_r k j = 1
  · rw [if_pos r1] at t
    exact ⟨i64, br_t r1 ⟨i64, t⟩⟩
  · rw [if_neg r1] at t
    by_cases r2 : sx_r k j = 2
    · rw [if_pos r2] at t
      exact ⟨i64, br_f r1 ⟨i64, br_t r2 ⟨i64, t⟩⟩⟩
    · rw [if_neg r2] at t
      exact ⟨i64, br_f r1 ⟨i64, br_f r2 t⟩⟩
theorem sx_strays {post : Int32 → St2 → Prop} {k : Nat → Int32} {n : Nat} {u : St2} (h : sx_U k n u) (H : ∀ u' : St2, sx_U k 8 u' → post (nI (sx_st k 8)) u') : wpX_strays post u := by
  obtain ⟨f1, f2, f3, f4, f5, a1, a2, a3, a4, a5, a6, a7⟩ := u
  obtain ⟨hn, rfl, rfl, hK⟩ := h
  unfold wpX_strays
  dsimp only
  refine sx_readTo hn (Nat.le_refl 8) hK (fun n' m e i b2 b3 b4 b5 b6 b7 hg' hn' hK' => ?_)
  have e8 : n' = 8 := by omega
  subst e8
  have t := H (nI 8, nI 8, m, e, i, a1, b2, b3, b4, b5, b6, b7) (sx_mk hn' hK')
  have main : ∀ d j : Nat, j + d = 8 → wX_strays_12 post (nI 8) (nI 8) m e i a1 b2 b3 b4 b5 b6 b7 (d + 1) (nI (sx_st k j)) (nI j) := by
    intro d
    induction d with
    | zero =>
      intro j hj
      have ej : j = 8 := by omega
      subst ej
      exact pk_le 8 8 (fun _ => t) (fun z => absurd z (by omega))
    | succ d ih =>
      intro j hj
      have cl : (nI j).toNatClampNeg = j := nI_clamp (by omega)
      have v := ih (j + 1) (by omega)
      refine pk_le 8 j (fun z => absurd z (by omega)) (fun _ => ⟨pk_in j 64 (by omega), ?_⟩)
      rw [cl, hK'.2.1 j (by omega)]
      by_cases r3 : sx_r k j = 3
      · rw [show sx_st k (j + 1) = sx_st k j + 1 from if_pos r3] at v
        exact br_t r3 (nm_r (nI_1 _) (nm_r (nI_1 j) v))
      · rw [show sx_st k (j + 1) = sx_st k j from if_neg r3] at v
        exact br_f r3 (nm_r (nI_1 j) v)
  exact ⟨9, main 8 0 rfl⟩
theorem sx_forward {post : Int32 → St2 → Prop} {k : Nat → Int32} {n o i : Nat} {u : St2} (ho : o < 8) (hi : i < 8) (hr : sx_r k o = 1) (hp : sx_p k 8 o = nI i) (h : sx_U k n u) (H : ∀ u' : St2, sx_U k 8 u' → post (nI i + 1) u') : wpX_forward post u (nI o) := by
  obtain ⟨f1, f2, f3, f4, f5, a1, a2, a3, a4, a5, a6, a7⟩ := u
  obtain ⟨hn, rfl, rfl, hK⟩ := h
  have cl : (nI o).toNatClampNeg = o := nI_clamp (by omega)
  have i64 : vp_in (nI o) 64 := pk_in o 64 (by omega)
  unfold wpX_forward
  dsimp only
  refine sx_isGap (by omega) (br_f (by decide) (sx_readTo hn (Nat.le_refl 8) hK (fun n' m e q b2 b3 b4 b5 b6 b7 hg' hn' hK' => ?_)))
  have e8 : n' = 8 := by omega
  subst e8
  have t := H (nI 8, nI 8, m, e, q, a1, b2, b3, b4, b5, b6, b7) (sx_mk hn' hK')
  have q2 : b2 (nI o).toNatClampNeg = 1 := by rw [cl, hK'.2.1 o ho, hr]
  have q3 : b3 (nI o).toNatClampNeg = nI i := by rw [cl, hK'.2.2.1 o ho, hp]
  refine ⟨1, ?_⟩
  unfold wX_forward_20 wpX_unitEnd
  dsimp only
  rw [q2, q3]
  exact pk_le 8 o (fun z => absurd z (by omega)) (fun _ => ⟨i64, br_f (by decide) ⟨i64, br_f (by decide) ⟨i64, br_t rfl ⟨i64, br_t (nI_pos' (by omega)) ⟨i64, br_f (nI_pos (by omega)) t⟩⟩⟩⟩⟩)
theorem sx_backward {post : Int32 → St2 → Prop} {k : Nat → Int32} {n o i : Nat} {u : St2} {p : Int32} (ho : o < 8) (hi : i < 8) (hr : sx_r k i = 2) (hp : sx_p k 8 i = nI o) (h : sx_U k n u) (hpp : p = nI (i + 1)) (H : ∀ u' : St2, sx_U k 8 u' → post (nI o) u') : wpX_backward post u p := by
  subst hpp
  obtain ⟨f1, f2, f3, f4, f5, a1, a2, a3, a4, a5, a6, a7⟩ := u
  obtain ⟨hn, rfl, rfl, hK⟩ := h
  have cl : (nI i).toNatClampNeg = i := nI_clamp (by omega)
  have i64 : vp_in (nI i) 64 := pk_in i 64 (by omega)
  unfold wpX_backward
  dsimp only
  refine sx_isGap (by omega) (br_f (by decide) (sx_readTo hn (Nat.le_refl 8) hK (fun n' m e q b2 b3 b4 b5 b6 b7 hg' hn' hK' => ?_)))
  have e8 : n' = 8 := by omega
  subst e8
  have t := H (nI 8, nI 8, m, e, q, a1, b2, b3, b4, b5, b6, b7) (sx_mk hn' hK')
  have q2 : b2 (nI i).toNatClampNeg = 2 := by rw [cl, hK'.2.1 i hi, hr]
  have q3 : b3 (nI i).toNatClampNeg = nI o := by rw [cl, hK'.2.2.1 i hi, hp]
  refine nm_r (nI_pred i) ⟨1, ?_⟩
  unfold wX_backward_22 wX_backward_58 wpX_unitStart
  dsimp only
  rw [q2, q3]
  exact br_f (nI_pos (by omega)) ⟨i64, br_f (by decide) ⟨i64, br_t rfl ⟨i64, br_f (nI_pos (by omega)) t⟩⟩⟩
end
section
/-! the law -/
section
variable {post : Int32 → St0 → Prop} {mc ms kc ks : Nat} {x0 : Int32} {J : Int32 → Int32 → Int32 → Int32 → Int32 → Int32 → Int32 → Int32 → Int32 → Int32 → Int32 → Int32 → (Nat → Int32) → (Nat → Int32) → (Nat → Int32) → (Nat → Int32) → (Nat → Int32) → (Nat → Int32) → (Nat → Int32) → Prop}
variable {k : Nat → Int32} {f1 f2 f3 f4 f5 : Int32} {a1 a2 a3 a4 a5 a6 a7 : Nat → Int32}
/-- the law's own reading of one character -/
theorem sx_148 {m e x4 x5 x6 x7 x8 c z0 : Int32} (hm : m = 0 ∨ m = 1 ∨ m = 2) (he : e = 0 ∨ e = 1)
    (H : wL_lawOf_247 post mc ms J x0 (sx_nm c m e) (sx_ne c m e) x4 x5 x6 x7 x8 c z0 kc ks f1 f2 f3 f4 f5 a1 a2 a3 a4 a5 a6 a7) :
    wL_lawOf_148 post mc ms J x0 m e x4 x5 x6 x7 x8 c z0 kc ks f1 f2 f3 f4 f5 a1 a2 a3 a4 a5 a6 a7 := by
  unfold wL_lawOf_148 wL_lawOf_175 wL_lawOf_198 wL_lawOf_218 wL_lawOf_230 wL_lawOf_246
  rcases he with he | he
  · subst he
    refine br_f (by decide) ?_
    rcases hm with hm | hm | hm
    · subst hm
      refine br_t rfl ?_
      by_cases h5 : c = 5
      · subst h5
        exact br_t rfl (br_f (by decide) (br_f (by decide) H))
      · refine br_f h5 ?_
        have e2 : sx_ne c 0 0 = 0 := if_neg h5
        rw [e2] at H
        by_cases h4 : c = 4
        · subst h4
          exact br_t rfl H
        · refine br_f h4 ?_
          by_cases h6 : c = 6
          · subst h6
            exact br_t rfl H
          · have e1 : sx_nm c 0 0 = 0 := by
              unfold sx_nm
              rw [if_pos rfl, if_pos rfl, if_neg h4, if_neg h6]
            rw [e1] at H
            exact br_f h6 H
    · subst hm
      refine br_f (by decide) (br_t rfl ?_)
      by_cases h5 : c = 5
      · subst h5
        exact br_t rfl (br_f (by decide) H)
      · refine br_f h5 ?_
        have e2 : sx_ne c 1 0 = 0 := if_neg h5
        rw [e2] at H
        by_cases h4 : c = 4
        · subst h4
          exact br_t rfl H
        · have e1 : sx_nm c 1 0 = 1 := if_neg h4
          rw [e1] at H
          exact br_f h4 H
    · subst hm
      refine br_f (by decide) (br_f (by decide) ?_)
      have e2 : sx_ne c 2 0 = 0 := rfl
      rw [e2] at H
      by_cases h7 : c = 7
      · subst h7
        exact br_t rfl H
      · have e1 : sx_nm c 2 0 = 2 := if_neg h7
        rw [e1] at H
        exact br_f h7 H
  · subst he
    exact br_t rfl H
/-- not free: nothing but the state changes -/
theorem sx_247n {x7 : Int32} {i n : Nat} (hf : ¬ (sx_m k i = 0 ∧ sx_e k i = 0)) (hU : sx_U k n (f1, f2, f3, f4, f5, a1, a2, a3, a4, a5, a6, a7)) (hp : ∀ j, sx_bt x7 j = false → sx_p k i j = -2)
    (HJ : ∀ (y7 : Int32) (n' : Nat) (g1 g2 g3 g4 g5 : Int32) (b1 b2 b3 b4 b5 b6 b7 : Nat → Int32), (∀ j, sx_bt y7 j = false → sx_p k (i + 1) j = -2) → sx_U k n' (g1, g2, g3, g4, g5, b1, b2, b3, b4, b5, b6, b7) →
      J (sx_m k (i + 1)) (sx_e k (i + 1)) (nI (sx_l k (i + 1)).length) (nI (sx_enc (sx_l k (i + 1)))) (nI (sx_st k (i + 1))) y7 (nI (i + 1)) g1 g2 g3 g4 g5 b1 b2 b3 b4 b5 b6 b7) :
    wL_lawOf_247 post mc ms J x0 (sx_m k (i + 1)) (sx_e k (i + 1)) (nI (sx_l k i).length) (nI (sx_enc (sx_l k i))) (nI (sx_st k i)) x7 (nI i) (k i) 0 kc ks f1 f2 f3 f4 f5 a1 a2 a3 a4 a5 a6 a7 := by
  rcases sx_cs k i with ⟨z1, z2, _⟩ | ⟨z1, z2, _⟩ | ⟨z1, z2, _⟩ | ⟨_, r1, r2, r3, hl⟩
  · exact absurd ⟨z1, z2⟩ hf
  · exact absurd ⟨z1, z2⟩ hf
  · exact absurd ⟨z1, z2⟩ hf
  · have t := HJ x7 n f1 f2 f3 f4 f5 a1 a2 a3 a4 a5 a6 a7 (by rw [sx_psn r2]; exact hp) hU
    rw [hl, show sx_st k (i + 1) = sx_st k i from if_neg r3] at t
    exact br_t rfl (br_t rfl (br_t rfl (nm_r (nI_1 i) t)))
/-- free: brackets and strays -/
theorem sx_247f {x7 : Int32} {i n : Nat} (hi : i < 8) (hm : sx_m k i = 0) (he : sx_e k i = 0) (hU : sx_U k n (f1, f2, f3, f4, f5, a1, a2, a3, a4, a5, a6, a7)) (hp : ∀ j, sx_bt x7 j = false → sx_p k i j = -2)
    (HJ : ∀ (y7 : Int32) (n' : Nat) (g1 g2 g3 g4 g5 : Int32) (b1 b2 b3 b4 b5 b6 b7 : Nat → Int32), (∀ j, sx_bt y7 j = false → sx_p k (i + 1) j = -2) → sx_U k n' (g1, g2, g3, g4, g5, b1, b2, b3, b4, b5, b6, b7) →
      J (sx_m k (i + 1)) (sx_e k (i + 1)) (nI (sx_l k (i + 1)).length) (nI (sx_enc (sx_l k (i + 1)))) (nI (sx_st k (i + 1))) y7 (nI (i + 1)) g1 g2 g3 g4 g5 b1 b2 b3 b4 b5 b6 b7) :
    wL_lawOf_247 post mc ms J x0 (sx_m k (i + 1)) (sx_e k (i + 1)) (nI (sx_l k i).length) (nI (sx_enc (sx_l k i))) (nI (sx_st k i)) x7 (nI i) (k i) 1 kc ks f1 f2 f3 f4 f5 a1 a2 a3 a4 a5 a6 a7 := by
  have E := sx_enc7 k (n := i) (by omega)
  have L := sx_lo k i
  have L1 := L.1
  have n1 : ¬ (1 : Int32) = 0 := by decide
  refine br_f n1 ?_
  rcases sx_cs k i with ⟨_, _, c2, r, hl⟩ | ⟨_, _, c3, r, o, q, ho, hl⟩ | ⟨_, _, c3, r, ho, hl⟩ | ⟨hc, r1, r2, r3, hl⟩
  · have t := HJ x7 n f1 f2 f3 f4 f5 a1 a2 a3 a4 a5 a6 a7 (by rw [sx_psn (by rw [r]; decide)]; exact hp) hU
    rw [hl, show sx_st k (i + 1) = sx_st k i from if_neg (by rw [r]; decide)] at t
    have n3 : ¬ k i = 3 := by rw [c2]; decide
    exact br_t c2 (nm_r (sx_push E (by omega)) (nm_r (nI_1 _) (br_f n1 (br_f n3 (br_f n1 (br_f n3 (nm_r (nI_1 i) t)))))))
  · obtain ⟨p1, p2, p3, p4⟩ := sx_pair hi r ho
    have n2 : ¬ k i = 2 := by rw [c3]; decide
    rw [ho] at E L1
    rw [List.length_cons] at L1
    have E' : 16 * sx_enc q + o < 2 ^ 28 := E
    have v1 : sx_pv k i = nI o := by
      unfold sx_pv
      rw [if_neg (by rw [r]; decide), if_pos r, p3]
    have v2 : sx_pv k o = nI i := by
      unfold sx_pv
      rw [if_pos p2, p4]
    rw [ho]
    refine br_f n2 (br_f n1 (br_t c3 (br_f (nI_ne0 (Nat.succ_pos _) (by rw [List.length_cons]; omega)) (br_f n1 (br_t c3 (br_f (nI_nle (Nat.succ_pos _) (by rw [List.length_cons]; omega)) ?_))))))
    refine nm_r (sx_peek (by omega) E') ?_
    refine sx_partner hi hU (fun u1 h1 => ?_)
    obtain ⟨g1, g2, g3, g4, g5, b1, b2, b3, b4, b5, b6, b7⟩ := u1
    refine br_t v1 (sx_partner (by omega) h1 (fun u2 h2 => ?_))
    obtain ⟨g1, g2, g3, g4, g5, b1, b2, b3, b4, b5, b6, b7⟩ := u2
    refine br_t v2 (sx_forward (by omega) hi p2 p4 h2 (fun u3 h3 => ?_))
    obtain ⟨g1, g2, g3, g4, g5, b1, b2, b3, b4, b5, b6, b7⟩ := u3
    refine br_t rfl (sx_backward (by omega) hi r p3 h3 (nI_1 i) (fun u4 h4 => ?_))
    obtain ⟨g1, g2, g3, g4, g5, b1, b2, b3, b4, b5, b6, b7⟩ := u4
    refine br_t rfl (nm_r (sx_pop (by omega) E') (nm_r (pk_m1 q.length) (nm_e (nm_r (nI_1 i) ?_))))
    have t := HJ (x7 ||| (((1 : Int32) <<< (nI i &&& 31)) ||| ((1 : Int32) <<< (nI o &&& 31)))) 8 g1 g2 g3 g4 g5 b1 b2 b3 b4 b5 b6 b7 (fun j hj => by
      obtain ⟨w1, w2, w3⟩ := sx_b1 hi (by omega) hj
      rw [sx_ps2 r ho, pk_un w3, pk_un w2]
      exact hp j w1) h4
    rw [hl, show sx_st k (i + 1) = sx_st k i from if_neg (by rw [r]; decide)] at t
    exact t
  · have t := HJ x7 n f1 f2 f3 f4 f5 a1 a2 a3 a4 a5 a6 a7 (by rw [sx_psn (by rw [r]; decide)]; exact hp) hU
    rw [hl, show sx_st k (i + 1) = sx_st k i + 1 from if_pos r] at t
    have n2 : ¬ k i = 2 := by rw [c3]; decide
    rw [ho]
    exact br_f n2 (br_f n1 (br_t c3 (br_t rfl (nm_r (nI_1 _) (br_f n1 (br_t c3 (br_t (by decide) (nm_r (nI_1 i) t))))))))
  · have t := HJ x7 n f1 f2 f3 f4 f5 a1 a2 a3 a4 a5 a6 a7 (by rw [sx_psn r2]; exact hp) hU
    rw [hl, show sx_st k (i + 1) = sx_st k i from if_neg r3] at t
    have n2 : ¬ k i = 2 := fun z => hc ⟨hm, he, Or.inl z⟩
    have n3 : ¬ k i = 3 := fun z => hc ⟨hm, he, Or.inr z⟩
    exact br_f n2 (br_f n1 (br_f n3 (br_f n1 (br_f n3 (nm_r (nI_1 i) t)))))
/-- the last loop, and what stands behind it -/
theorem sx_399 {x7 : Int32} (HP : post 1 ()) (hp : ∀ j, sx_bt x7 j = false → sx_p k 8 j = -2) : ∀ (d i n : Nat) (f1 f2 f3 f4 f5 : Int32) (a1 a2 a3 a4 a5 a6 a7 : Nat → Int32), i + d = 8 → sx_U k n (f1, f2, f3, f4, f5, a1, a2, a3, a4, a5, a6, a7) →
    wL_lawOf_399 post mc ms (sx_m k 8) (sx_e k 8) (nI (sx_l k 8).length) (nI (sx_st k 8)) x7 kc ks (d + 1) (nI i) f1 f2 f3 f4 f5 a1 a2 a3 a4 a5 a6 a7 := by
  intro d
  induction d with
  | zero =>
    intro i n f1 f2 f3 f4 f5 a1 a2 a3 a4 a5 a6 a7 hi hU
    refine pk_le 8 i (fun _ => ?_) (fun z => absurd z (by omega))
    refine sx_mode (g := 8) (Nat.le_refl 8) hU (fun n1 u1 h1 => ?_)
    obtain ⟨g1, g2, g3, g4, g5, b1, b2, b3, b4, b5, b6, b7⟩ := u1
    refine br_t rfl (sx_escaped (g := 8) (Nat.le_refl 8) h1 (fun n2 u2 h2 => ?_))
    obtain ⟨g1, g2, g3, g4, g5, b1, b2, b3, b4, b5, b6, b7⟩ := u2
    refine br_t rfl (sx_depth (g := 8) (Nat.le_refl 8) h2 (fun n3 u3 h3 => ?_))
    obtain ⟨g1, g2, g3, g4, g5, b1, b2, b3, b4, b5, b6, b7⟩ := u3
    refine br_t rfl (sx_strays h3 (fun u4 h4 => ?_))
    obtain ⟨g1, g2, g3, g4, g5, b1, b2, b3, b4, b5, b6, b7⟩ := u4
    refine br_t rfl (sx_mode9 h4 (br_t rfl (sx_bracketAt (g := 8) (Nat.le_refl 8) h4 (fun n5 u5 h5 => ?_))))
    obtain ⟨g1, g2, g3, g4, g5, b1, b2, b3, b4, b5, b6, b7⟩ := u5
    exact br_t rfl HP
  | succ d ih =>
    intro i n f1 f2 f3 f4 f5 a1 a2 a3 a4 a5 a6 a7 hi hU
    refine pk_le 8 i (fun z => absurd z (by omega)) (fun _ => ?_)
    refine br_c (fun hb => ?_) (fun _ => nm_r (nI_1 i) (ih (i + 1) n f1 f2 f3 f4 f5 a1 a2 a3 a4 a5 a6 a7 (by omega) hU))
    have hv : sx_pv k i = -2 := by
      have z := hp i (sx_b0 (by omega) hb)
      unfold sx_pv
      rw [z, ite_self, ite_self]
    refine sx_partner (by omega) hU (fun u1 h1 => ?_)
    obtain ⟨g1, g2, g3, g4, g5, b1, b2, b3, b4, b5, b6, b7⟩ := u1
    exact br_t hv (nm_r (nI_1 i) (ih (i + 1) 8 g1 g2 g3 g4 g5 b1 b2 b3 b4 b5 b6 b7 (by omega) h1))
def sx_kd (x0 : Int32) (j : Nat) : Int32 := (x0 >>> ((3 * nI j) &&& 31)) &&& 7
/-- the loop that checks the object character by character -/
theorem sx_61 (HP : post 1 ()) : ∀ (d i n : Nat) (x7 f1 f2 f3 f4 f5 : Int32) (a1 a2 a3 a4 a5 a6 a7 : Nat → Int32), i + d = 8 → (∀ j, sx_bt x7 j = false → sx_p (sx_kd x0) i j = -2) → sx_U (sx_kd x0) n (f1, f2, f3, f4, f5, a1, a2, a3, a4, a5, a6, a7) →
    wL_lawOf_61 post mc ms x0 kc ks (d + 1) (sx_m (sx_kd x0) i) (sx_e (sx_kd x0) i) (nI (sx_l (sx_kd x0) i).length) (nI (sx_enc (sx_l (sx_kd x0) i))) (nI (sx_st (sx_kd x0) i)) x7 (nI i) f1 f2 f3 f4 f5 a1 a2 a3 a4 a5 a6 a7 := by
  intro d
  induction d with
  | zero =>
    intro i n x7 f1 f2 f3 f4 f5 a1 a2 a3 a4 a5 a6 a7 hi hp hU
    have e8 : i = 8 := by omega
    subst e8
    exact pk_le 8 8 (fun _ => ⟨9, sx_399 HP hp 8 0 n f1 f2 f3 f4 f5 a1 a2 a3 a4 a5 a6 a7 rfl hU⟩) (fun z => absurd z (by omega))
  | succ d ih =>
    intro i n x7 f1 f2 f3 f4 f5 a1 a2 a3 a4 a5 a6 a7 hi hp hU
    have E := sx_enc7 (sx_kd x0) (n := i) (by omega)
    have L := sx_lo (sx_kd x0) i
    have L1 := L.1
    refine pk_le 8 i (fun z => absurd z (by omega)) (fun _ => ?_)
    refine sx_mode (by omega) hU (fun n1 u1 h1 => ?_)
    obtain ⟨g1, g2, g3, g4, g5, b1, b2, b3, b4, b5, b6, b7⟩ := u1
    refine br_t rfl (sx_escaped (by omega) h1 (fun n2 u2 h2 => ?_))
    obtain ⟨g1, g2, g3, g4, g5, b1, b2, b3, b4, b5, b6, b7⟩ := u2
    refine br_t rfl (sx_depth (by omega) h2 (fun n3 u3 h3 => ?_))
    obtain ⟨g1, g2, g3, g4, g5, b1, b2, b3, b4, b5, b6, b7⟩ := u3
    refine br_t rfl (sx_up (by omega) h3 (fun n4 u4 h4 => ?_))
    obtain ⟨g1, g2, g3, g4, g5, b1, b2, b3, b4, b5, b6, b7⟩ := u4
    have main : ∀ z0 : Int32, sx_top (sx_l (sx_kd x0) i) = z0 → wL_lawOf_122 post mc ms (wL_lawOf_61 post mc ms x0 kc ks (d + 1)) x0 (sx_m (sx_kd x0) i) (sx_e (sx_kd x0) i) (nI (sx_l (sx_kd x0) i).length) (nI (sx_enc (sx_l (sx_kd x0) i))) (nI (sx_st (sx_kd x0) i)) x7 (nI i) z0 (sx_top (sx_l (sx_kd x0) i)) kc ks g1 g2 g3 g4 g5 b1 b2 b3 b4 b5 b6 b7 := by
      intro z0 hz
      unfold wL_lawOf_122 wL_lawOf_147 wpL_kind
      refine br_t hz ?_
      have HJ := fun (y7 : Int32) (n' : Nat) (g1 g2 g3 g4 g5 : Int32) (b1 b2 b3 b4 b5 b6 b7 : Nat → Int32) q1 q2 => ih (i + 1) n' y7 g1 g2 g3 g4 g5 b1 b2 b3 b4 b5 b6 b7 (by omega) q1 q2
      by_cases he : sx_e (sx_kd x0) i = 0
      · refine br_t he ?_
        by_cases hm : sx_m (sx_kd x0) i = 0
        · exact br_t hm (sx_148 (sx_m3 _ i) (sx_e2 _ i) (sx_247f (k := sx_kd x0) (i := i) (by omega) hm he h4 hp HJ))
        · exact br_f hm (sx_148 (sx_m3 _ i) (sx_e2 _ i) (sx_247n (k := sx_kd x0) (i := i) (fun z => hm z.1) h4 hp HJ))
      · exact br_f he (sx_148 (sx_m3 _ i) (sx_e2 _ i) (sx_247n (k := sx_kd x0) (i := i) (fun z => he z.2) h4 hp HJ))
    cases hl : sx_l (sx_kd x0) i with
    | nil =>
      rw [hl] at main
      exact br_t (by decide) (main _ rfl)
    | cons o q =>
      rw [hl] at main E L L1
      rw [List.length_cons] at L1
      have ho := (L.2.1 o List.mem_cons_self).1
      exact br_f (nI_nle (Nat.succ_pos _) (by rw [List.length_cons]; omega)) (main _ (sx_peek (by omega) E).symm)
theorem sx_insert {pst : Int32 → St2 → Prop} {c : Int32} {i : Nat} (hi : i < 8) (hc : ∃ q : Nat, q < 8 ∧ c = nI q) (H : pst (nI (i + 1)) (nI (i + 1), 0, f3, f4, f5, upd a1 i c, a2, a3, a4, a5, a6, a7)) :
    wpX_insert pst (nI i, 0, f3, f4, f5, a1, a2, a3, a4, a5, a6, a7) (nI i) c := by
  obtain ⟨q, hq, rfl⟩ := hc
  have cl : (nI i).toNatClampNeg = i := nI_clamp (by omega)
  have n1 : ¬ (1 : Int32) = 0 := by decide
  unfold wpX_insert wpX_isGap wpX_isKind
  dsimp only
  refine pk_lt i 0 (fun z => absurd z (by omega)) (fun _ => pk_lt i i (fun z => absurd z (by omega)) (fun _ => br_f n1 ?_))
  refine pk_lt q 0 (fun z => absurd z (by omega)) (fun _ => pk_lt 7 q (fun z => absurd z (by omega)) (fun _ => br_f n1 ?_))
  refine pk_eq i 64 (fun z => absurd z (by omega)) (fun _ => ⟨1, pk_le i i (fun _ => ⟨pk_in i 64 (by omega), nm_r (by rw [cl]) (nm_r (nI_1 i) ?_)⟩) (fun z => absurd z (by omega))⟩)
  exact pk_le 0 i (fun _ => ⟨1, pk_le 0 0 (fun _ => H) (fun z => absurd z (by omega))⟩) (fun z => absurd z (by omega))
/-- the loop that fills the object -/
theorem sx_10 (HP : post 1 ()) (h5 : a5 0 = 0) (h6 : a6 0 = 0) (h7 : a7 0 = -2) : ∀ (d i : Nat) (a1 : Nat → Int32), i + d = 8 → (∀ j, j < i → a1 j = sx_kd x0 j) →
    wL_lawOf_10 post mc ms x0 kc ks (d + 1) (nI i) (nI i) 0 f3 f4 f5 a1 a2 a3 a4 a5 a6 a7 := by
  intro d
  induction d with
  | zero =>
    intro i a1 hi h
    have e8 : i = 8 := by omega
    subst e8
    exact pk_le 8 8 (fun _ => ⟨9, sx_61 HP 8 0 0 0 (nI 8) 0 f3 f4 f5 a1 a2 a3 a4 a5 a6 a7 rfl (fun _ _ => rfl) (sx_mk (n := 0) (by omega) ⟨h, fun j hj => absurd hj (by omega), fun j hj => absurd hj (by omega), fun j hj => absurd hj (by omega), h5, h6, h7⟩)⟩) (fun z => absurd z (by omega))
  | succ d ih =>
    intro i a1 hi h
    refine pk_le 8 i (fun z => absurd z (by omega)) (fun _ => ?_)
    unfold wpL_kind
    refine sx_insert (by omega) (pk_andE _ 3 (by decide)) ?_
    refine br_t (nI_1 i).symm (nm_r (nI_1 i) (ih (i + 1) _ (by omega) (fun j hj => ?_)))
    by_cases e : j = i
    · rw [e, pk_us]
      rfl
    · rw [pk_un e]
      exact h j (by omega)
end
theorem sx_law (post : Int32 → St0 → Prop) (HP : post 1 ()) (x0 : Int32) : wpL_lawOf post 8 283 () x0 := by
  refine ⟨by omega, by omega, 7, 271, by omega, by omega, ?_⟩
  refine ⟨by omega, by omega, by omega, by omega, by omega, by omega, by omega, by omega, by omega, by omega, by omega, by omega, by omega, by omega, nm_e ?_⟩
  exact ⟨9, sx_10 HP (by rfl) (by rfl) (by exact pk_us) 8 0 _ rfl (fun j hj => absurd hj (by omega))⟩
theorem i_vc (xs : Nat → Int32) (L : Nat) (hL : L ≤ 1) : wpL_law (fun r => r = 1) L xs := by
  have main : ∀ x0 : Int32, ∃ mc ms : Nat, 0 + mc ≤ 158 ∧ 0 + ms ≤ 2512 ∧ wpL_lawOf (fun r _ => r = 1) mc ms () x0 := fun x0 => ⟨8, 283, by omega, by omega, sx_law _ rfl x0⟩
  exact pk_le L 0 (fun _ => main _) (fun z => ⟨pk_in 0 L z, main _⟩)
end
