section
/-! the base: ints that are naturals, as sets of bits -/
theorem mr_and (a b : Nat) : nI a &&& nI b = nI (a &&& b) := by
  apply Int32.toBitVec_inj.1
  show BitVec.ofNat 32 a &&& BitVec.ofNat 32 b = BitVec.ofNat 32 (a &&& b)
  apply BitVec.eq_of_getLsbD_eq
  intro i hi
  simp [hi]
theorem mr_or (a b : Nat) : nI a ||| nI b = nI (a ||| b) := by
  apply Int32.toBitVec_inj.1
  show BitVec.ofNat 32 a ||| BitVec.ofNat 32 b = BitVec.ofNat 32 (a ||| b)
  apply BitVec.eq_of_getLsbD_eq
  intro i hi
  simp [hi]
/-- a without b -/
def mr_dn (a b : Nat) : Nat := a ^^^ (a &&& b)
theorem mr_m1 : ∀ i, i < 32 → (-1 : Int32).toBitVec.getLsbD i = true := by decide +kernel
theorem mr_andn (a b : Nat) : nI a &&& (nI b ^^^ (-1)) = nI (mr_dn a b) := by
  apply Int32.toBitVec_inj.1
  apply BitVec.eq_of_getLsbD_eq
  intro i hi
  rw [Int32.toBitVec_and, Int32.toBitVec_xor, BitVec.getLsbD_and, BitVec.getLsbD_xor, mr_m1 i hi]
  show ((BitVec.ofNat 32 a).getLsbD i && ((BitVec.ofNat 32 b).getLsbD i ^^ true)) = (BitVec.ofNat 32 (a ^^^ (a &&& b))).getLsbD i
  simp only [BitVec.getLsbD_ofNat, hi, decide_true, Bool.true_and, Nat.testBit_xor, Nat.testBit_and]
  cases a.testBit i <;> cases b.testBit i <;> rfl
theorem mr_shl : ∀ d, d < 32 → (1 : Int32) <<< (nI d &&& 31) = nI (2 ^ d) := by decide +kernel
theorem mr_sl : ∀ n, n < 32 → ((nI n &&& 31).toBitVec.smod 32).toNat = n := by decide +kernel
theorem mr_has {s c : Nat} (hs : s < 2 ^ 31) (hc : c < 32) : ((nI s >>> (nI c &&& 31)) &&& 1) = 1 ↔ s.testBit c = true := by
  have h2 : s / 2 ^ c % 2 < 2 := Nat.mod_lt _ (by decide)
  rw [pk_shrN hs _ c (mr_sl c hc)]
  show nI (s / 2 ^ c) &&& nI 1 = nI 1 ↔ _
  rw [mr_and, Nat.and_one_is_mod, nI_eq (by omega) (by omega), Nat.testBit_eq_decide_div_mod_eq, decide_eq_true_iff]
theorem mr_low {a : Nat} (h : a ≤ 4294967296) : nI a &&& (-nI a) = nI (a &&& (4294967296 - a)) := by
  have e : -nI a = nI (4294967296 - a) := by
    rw [← pk_sub h, show nI 4294967296 = 0 from by decide]
    exact (Int32.zero_sub _).symm
  rw [e, mr_and]
theorem mr_dn_lt {a b n : Nat} (h : a < 2 ^ n) : mr_dn a b < 2 ^ n := Nat.xor_lt_two_pow h (Nat.lt_of_le_of_lt Nat.and_le_left h)
theorem mr_and_lt {a b n : Nat} (h : a < n) : a &&& b < n := Nat.lt_of_le_of_lt Nat.and_le_left h
theorem mr_and_lt' {a b n : Nat} (h : b < n) : a &&& b < n := Nat.lt_of_le_of_lt Nat.and_le_right h
/-- a boolean as an int -/
def mr_b (b : Bool) : Int32 := bif b then 1 else 0
theorem mr_nb (b : Bool) : narrow .boolean (.int (mr_b b)) = .int (mr_b b) := by cases b <;> rfl
theorem mr_fb (b : Bool) : fits .boolean (.int (mr_b b)) = true := by cases b <;> rfl
theorem mr_bz {b : Bool} {A B : Prop} (f : b = false → A) (g : b = true → B) : (mr_b b = 0 → A) ∧ (¬ mr_b b = 0 → B) := by
  cases b
  · exact ⟨fun _ => f rfl, fun z => absurd rfl z⟩
  · exact ⟨fun z => absurd z (by decide), fun _ => g rfl⟩
/-- the class's count of bits -/
def mr_pc : Nat → Nat → Nat
  | 0, _ => 0
  | f + 1, s => bif Nat.beq s 0 then 0 else mr_pc f (s &&& (s - 1)) + 1
def mr_bits (s : Nat) : Nat := mr_pc 20 s
theorem mr_pc_s {f s : Nat} (h : s ≠ 0) : mr_pc (f + 1) s = mr_pc f (s &&& (s - 1)) + 1 := by
  have e : Nat.beq s 0 = false := by
    cases hb : Nat.beq s 0
    · rfl
    · exact absurd (Nat.eq_of_beq_eq_true hb) h
  simp only [mr_pc, e, cond_false]
theorem mr_pc_le : ∀ f s, mr_pc f s ≤ f := by
  intro f
  induction f with
  | zero => intro s; exact Nat.le_refl 0
  | succ f ih =>
    intro s
    by_cases h : s = 0
    · subst h; exact Nat.zero_le _
    · rw [mr_pc_s h]
      have := ih (s &&& (s - 1))
      omega
theorem mr_bits_le (s : Nat) : mr_bits s ≤ 20 := mr_pc_le 20 s
theorem mr_bits_pos {s : Nat} (h : s ≠ 0) : 1 ≤ mr_bits s := by
  unfold mr_bits
  rw [mr_pc_s h]
  omega
/-- forcing: numbers and lists as the kernel meets them -/
def mr_fn {α : Type} (n : Nat) (k : Nat → α) : α := match n with
  | 0 => k 0
  | m + 1 => k (m + 1)
theorem mr_fn_eq {α : Type} (n : Nat) (k : Nat → α) : mr_fn n k = k n := by cases n <;> rfl
def mr_fl {α : Type} : List Nat → (List Nat → α) → α
  | [], k => k []
  | x :: r, k => mr_fn x (fun y => mr_fl r (fun t => k (y :: t)))
theorem mr_fl_eq {α : Type} : ∀ (l : List Nat) (k : List Nat → α), mr_fl l k = k l := by
  intro l
  induction l with
  | nil => intro k; rfl
  | cons x r ih => intro k; simp only [mr_fl, mr_fn_eq, ih]
/-- the cells beside a cell -/
def mr_near (c : Nat) : Nat := [98, 229, 458, 916, 776, 3139, 7335, 14670, 29340, 24856, 100448, 234720, 469440, 938880, 795392, 68608, 171008, 342016, 684032, 286720].getD c 0
theorem mr_near_lt (c : Nat) : mr_near c < 2 ^ 20 := by
  rcases Nat.lt_or_ge c 20 with h | h
  · exact (by decide +kernel : ∀ c, c < 20 → mr_near c < 2 ^ 20) c h
  · unfold mr_near
    rw [List.getD_eq_getElem?_getD, List.getElem?_eq_none (by simpa using h)]
    decide
/-- a clue or a total: 0 for none -/
def mr_dec (x : Nat) : Int32 := if x = 0 then -1 else nI (x - 1)
theorem mr_dec_0 : mr_dec 0 = -1 := rfl
theorem mr_dec_s (x : Nat) : mr_dec (x + 1) = nI x := rfl
theorem mr_dec_p {x : Nat} (h : x ≠ 0) : mr_dec x = nI (x - 1) := if_neg h
theorem mr_dec_m : ∀ x, x < 22 → (mr_dec x = (-1) ↔ x = 0) := by decide +kernel
/-- the field: which cell is shown with which clue (0: covered, k + 1: the clue k) -/
def mr_C (cf : Nat → Nat) (a1 : Nat → Int32) : Prop := ∀ c, c < 20 → cf c ≤ 9 ∧ a1 c = mr_dec (cf c)
def mr_N (a2 : Nat → Int32) : Prop := ∀ c, c < 20 → a2 c = nI (mr_near c)
theorem mr_cl {a1 : Nat → Int32} {cf : Nat → Nat} {c : Nat} {A B : Prop} (h : mr_C cf a1) (hc : c < 20) (f : cf c = 0 → A) (g : cf c ≠ 0 → B) : (a1 c = (-1) → A) ∧ (¬ a1 c = (-1) → B) := by
  have h1 := (h c hc).1
  rw [(h c hc).2]
  exact ek_if (mr_dec_m _ (by omega)) f g
theorem mr_clv {a1 : Nat → Int32} {cf : Nat → Nat} {c : Nat} (h : mr_C cf a1) (hc : c < 20) (h0 : cf c ≠ 0) : a1 c = nI (cf c - 1) := by
  rw [(h c hc).2, mr_dec_p h0]
def mr_cov (cf : Nat → Nat) : Nat → Nat
  | 0 => 0
  | n + 1 => if cf n = 0 then mr_cov cf n ||| 2 ^ n else mr_cov cf n
theorem mr_cov_lt (cf : Nat → Nat) : ∀ n, mr_cov cf n < 2 ^ n := by
  intro n
  induction n with
  | zero => exact Nat.zero_lt_one
  | succ n ih =>
    have h1 : mr_cov cf n < 2 ^ (n + 1) := Nat.lt_of_lt_of_le ih (Nat.pow_le_pow_right (by decide) (by omega))
    have h2 : 2 ^ n < 2 ^ (n + 1) := Nat.pow_lt_pow_right (by decide) (by omega)
    by_cases h : cf n = 0
    · simp only [mr_cov, h, if_true]
      exact Nat.or_lt_two_pow h1 h2
    · simp only [mr_cov, h, if_false]
      exact h1
/-- the shown cells below n: the cell, its neighbours, its clue -/
def mr_E (cf : Nat → Nat) : Nat → List (Nat × Nat × Nat)
  | 0 => []
  | n + 1 => if cf n = 0 then mr_E cf n else mr_E cf n ++ [(n, mr_near n, cf n - 1)]
theorem mr_E_z {cf : Nat → Nat} {n : Nat} (h : cf n = 0) : mr_E cf (n + 1) = mr_E cf n := by simp [mr_E, h]
theorem mr_E_s {cf : Nat → Nat} {n : Nat} (h : cf n ≠ 0) : mr_E cf (n + 1) = mr_E cf n ++ [(n, mr_near n, cf n - 1)] := by simp [mr_E, h]
theorem mr_F_z {α : Type} {f : α → Nat × Nat × Nat → α} {a : α} {cf : Nat → Nat} {n : Nat} (h : cf n = 0) : (mr_E cf (n + 1)).foldl f a = (mr_E cf n).foldl f a := by rw [mr_E_z h]
theorem mr_F_s {α : Type} {f : α → Nat × Nat × Nat → α} {a : α} {cf : Nat → Nat} {n : Nat} (h : cf n ≠ 0) : (mr_E cf (n + 1)).foldl f a = f ((mr_E cf n).foldl f a) (n, mr_near n, cf n - 1) := by
  rw [mr_E_s h, List.foldl_append]
  rfl
theorem mr_E_mem {cf : Nat → Nat} : ∀ n, ∀ p ∈ mr_E cf n, p.1 < n ∧ p.2.1 = mr_near p.1 ∧ p.2.2 = cf p.1 - 1 ∧ cf p.1 ≠ 0 := by
  intro n
  induction n with
  | zero => intro p hp; exact absurd hp (by simp [mr_E])
  | succ n ih =>
    intro p hp
    by_cases h : cf n = 0
    · rw [mr_E_z h] at hp
      have := ih p hp
      exact ⟨by omega, this.2⟩
    · rw [mr_E_s h, List.mem_append] at hp
      rcases hp with hp | hp
      · have := ih p hp
        exact ⟨by omega, this.2⟩
      · rw [List.mem_singleton] at hp
        subst hp
        exact ⟨by simp, rfl, rfl, h⟩
/-- an array holds a list -/
def mr_H (l : List Nat) (a : Nat → Int32) : Prop := ∀ j, j < l.length → a j = nI (l.getD j 0)
theorem mr_H_0 {a : Nat → Int32} : mr_H [] a := fun j hj => absurd hj (by simp)
theorem mr_H_add {l : List Nat} {a : Nat → Int32} (x : Nat) (h : mr_H l a) : mr_H (l ++ [x]) (upd a l.length (nI x)) := by
  intro j hj
  rw [List.length_append, List.length_singleton] at hj
  by_cases e : j = l.length
  · subst e
    rw [pk_us]
    simp [List.getD]
  · rw [pk_un e, h j (by omega)]
    have : j < l.length := by omega
    simp [List.getD, List.getElem?_append_left this]
theorem mr_getD {l : List Nat} {i : Nat} (h : i < l.length) : l.getD i 0 = l[i] := by
  rw [List.getD_eq_getElem?_getD, List.getElem?_eq_getElem h]
  rfl
def mr_it {α : Type} (f : α → α) : Nat → α → α
  | 0, a => a
  | n + 1, a => f (mr_it f n a)
/-- tables of 21 -/
def mr_tab (f : Nat → Nat) : List Nat := [f 0, f 1, f 2, f 3, f 4, f 5, f 6, f 7, f 8, f 9, f 10, f 11, f 12, f 13, f 14, f 15, f 16, f 17, f 18, f 19, f 20]
theorem mr_tab_get (f : Nat → Nat) {j : Nat} (h : j < 21) : (mr_tab f).getD j 0 = f j := by
  match j, h with
  | 0, _ => rfl
  | 1, _ => rfl
  | 2, _ => rfl
  | 3, _ => rfl
  | 4, _ => rfl
  | 5, _ => rfl
  | 6, _ => rfl
  | 7, _ => rfl
  | 8, _ => rfl
  | 9, _ => rfl
  | 10, _ => rfl
  | 11, _ => rfl
  | 12, _ => rfl
  | 13, _ => rfl
  | 14, _ => rfl
  | 15, _ => rfl
  | 16, _ => rfl
  | 17, _ => rfl
  | 18, _ => rfl
  | 19, _ => rfl
  | 20, _ => rfl
  | n + 21, h => exact absurd h (by omega)
section
variable {fw fv fg fr fe fm fd ff fk : Int32} {a1 a2 a3 a4 a5 a6 a7 a8 a9 a10 : Nat → Int32}
theorem mr_bitsL {post : Int32 → Prop} : ∀ (f i c s n : Nat), i + f = 20 → f < n → s < 2 ^ 31 → post (nI (c + mr_pc f s)) → wX_bitsOf_7 post fw fv fg fr fe fm fd ff fk a1 a2 a3 a4 a5 a6 a7 a8 a9 a10 n (nI c) (nI s) (nI i) := by
  intro f
  induction f with
  | zero =>
    intro i c s n hi hn hs hp
    obtain ⟨n, rfl⟩ : ∃ m, n = m + 1 := ⟨n - 1, by omega⟩
    exact pk_le 20 i (fun _ => hp) (fun z => absurd z (by omega))
  | succ f ih =>
    intro i c s n hi hn hs hp
    obtain ⟨n, rfl⟩ : ∃ m, n = m + 1 := ⟨n - 1, by omega⟩
    refine pk_le 20 i (fun z => absurd z (by omega)) (fun _ => ?_)
    refine pk_eq s 0 (fun e => ?_) (fun e => ?_)
    · subst e
      exact hp
    · refine nm_r (e' := nI (s &&& (s - 1))) ?_ (nm_r (nI_1 c) (nm_r (nI_1 i) ?_))
      · rw [show nI s - 1 = nI (s - 1) from pk_sub (a := s) (b := 1) (by omega), mr_and]
      · refine ih (i + 1) (c + 1) (s &&& (s - 1)) n (by omega) (by omega) (mr_and_lt hs) ?_
        rw [mr_pc_s e] at hp
        rw [show c + 1 + mr_pc f (s &&& (s - 1)) = c + (mr_pc f (s &&& (s - 1)) + 1) by omega]
        exact hp
theorem mr_bitsOf {post : Int32 → Prop} {s : Nat} (hs : s < 2 ^ 31) (hp : post (nI (mr_bits s))) : wpX_bitsOf post (fw, fv, fg, fr, fe, fm, fd, ff, fk, a1, a2, a3, a4, a5, a6, a7, a8, a9, a10) (nI s) := by
  show ∃ n, wX_bitsOf_7 post fw fv fg fr fe fm fd ff fk a1 a2 a3 a4 a5 a6 a7 a8 a9 a10 n 0 (nI s) 0
  exact ⟨21, mr_bitsL 20 0 0 s 21 (by omega) (by omega) hs (by rw [Nat.zero_add]; exact hp)⟩
theorem mr_hasE {post : Int32 → Prop} {s c : Nat} (hs : s < 2 ^ 31) (hc : c < 32) (h : post (mr_b (s.testBit c))) : wpX_has post (fw, fv, fg, fr, fe, fm, fd, ff, fk, a1, a2, a3, a4, a5, a6, a7, a8, a9, a10) (nI s) (nI c) := by
  refine ek_if (mr_has hs hc) (fun z => ?_) (fun z => ?_)
  · rw [z] at h
    exact h
  · rw [Bool.eq_false_iff.mpr z] at h
    exact h
theorem mr_hasX {post : Int32 → Prop} {s c : Nat} {x : Int32} (hx : x = nI c) (hs : s < 2 ^ 31) (hc : c < 32) (h : post (mr_b (s.testBit c))) : wpX_has post (fw, fv, fg, fr, fe, fm, fd, ff, fk, a1, a2, a3, a4, a5, a6, a7, a8, a9, a10) (nI s) x := by
  subst hx
  exact mr_hasE hs hc h
theorem mr_badCell {post : Int32 → Prop} {c : Nat} (hc : c < 20) (h : post 0) : wpX_badCell post (fw, fv, fg, fr, fe, fm, fd, ff, fk, a1, a2, a3, a4, a5, a6, a7, a8, a9, a10) (nI c) :=
  br_f (nI_pos (by omega)) (br_t (nI_lt (b := 20) hc (by omega)) h)
end
end
section
/-! the field, the groups -/
/-- one round of linkedTo -/
def mr_link (L : List (Nat × Nat × Nat)) (cv s : Nat) : Nat := L.foldl (fun o p => bif Nat.beq (p.2.1 &&& cv &&& s) 0 then o else o ||| (p.2.1 &&& cv)) s
def mr_edge (L : List (Nat × Nat × Nat)) (cv : Nat) : Nat := L.foldl (fun o p => o ||| (p.2.1 &&& cv)) 0
def mr_grp (L : List (Nat × Nat × Nat)) (cv : Nat) : Nat → Nat → List Nat
  | 0, _ => []
  | f + 1, left => bif Nat.beq left 0 then [] else mr_fn (mr_it (mr_link L cv) 20 (left &&& (4294967296 - left))) (fun s => s :: mr_grp L cv f (mr_dn left s))
def mr_gs (L : List (Nat × Nat × Nat)) (cv : Nat) : List Nat := mr_grp L cv 20 (mr_edge L cv)
def mr_ecg (L : List (Nat × Nat × Nat)) (cv : Nat) : Bool := L.all (fun p => !(Nat.beq (p.2.1 &&& cv) 0) || Nat.beq p.2.2 0)
theorem mr_beq_f {a b : Nat} (h : a ≠ b) : Nat.beq a b = false := by
  cases hb : Nat.beq a b
  · rfl
  · exact absurd (Nat.eq_of_beq_eq_true hb) h
theorem mr_beq_t {a b : Nat} (h : a = b) : Nat.beq a b = true := by subst h; exact Nat.beq_refl a
theorem mr_fold_lt {L : List (Nat × Nat × Nat)} {f : Nat → Nat × Nat × Nat → Nat} {m : Nat} (hf : ∀ o, o < m → ∀ p ∈ L, f o p < m) : ∀ o, o < m → L.foldl f o < m := by
  induction L with
  | nil => intro o h; exact h
  | cons p r ih => intro o h; exact ih (fun o' h' q hq => hf o' h' q (List.mem_cons_of_mem _ hq)) _ (hf o h p List.mem_cons_self)
theorem mr_near_E {cf : Nat → Nat} {n : Nat} : ∀ p ∈ mr_E cf n, p.2.1 < 2 ^ 20 := fun p hp => by
  rw [(mr_E_mem n p hp).2.1]
  exact mr_near_lt _
theorem mr_link_lt {L : List (Nat × Nat × Nat)} {cv s : Nat} (hL : ∀ p ∈ L, p.2.1 < 2 ^ 20) (hs : s < 2 ^ 20) : mr_link L cv s < 2 ^ 20 := by
  unfold mr_link
  refine mr_fold_lt (fun o ho p hp => ?_) s hs
  cases Nat.beq (p.2.1 &&& cv &&& s) 0
  · exact Nat.or_lt_two_pow ho (mr_and_lt (hL p hp))
  · exact ho
theorem mr_edge_lt {L : List (Nat × Nat × Nat)} {cv : Nat} (hL : ∀ p ∈ L, p.2.1 < 2 ^ 20) : mr_edge L cv < 2 ^ 20 := by
  unfold mr_edge
  exact mr_fold_lt (fun o ho p hp => Nat.or_lt_two_pow ho (mr_and_lt (hL p hp))) 0 (by decide)
theorem mr_it_lt {L : List (Nat × Nat × Nat)} {cv s : Nat} (hL : ∀ p ∈ L, p.2.1 < 2 ^ 20) (hs : s < 2 ^ 20) : ∀ n, mr_it (mr_link L cv) n s < 2 ^ 20 := by
  intro n
  induction n with
  | zero => exact hs
  | succ n ih => exact mr_link_lt hL ih
theorem mr_grp_lt {L : List (Nat × Nat × Nat)} {cv : Nat} (hL : ∀ p ∈ L, p.2.1 < 2 ^ 20) : ∀ f left, left < 2 ^ 20 → ∀ s ∈ mr_grp L cv f left, s < 2 ^ 20 := by
  intro f
  induction f with
  | zero => intro left _ s hs; exact absurd hs (by simp [mr_grp])
  | succ f ih =>
    intro left hl s hs
    rw [mr_grp] at hs
    cases hb : Nat.beq left 0
    · rw [hb, cond_false, mr_fn_eq, List.mem_cons] at hs
      rcases hs with rfl | hs
      · exact mr_it_lt hL (mr_and_lt hl) 20
      · exact ih _ (mr_dn_lt hl) s hs
    · rw [hb, cond_true] at hs
      exact absurd hs (by simp)
theorem mr_grp_len {L : List (Nat × Nat × Nat)} {cv : Nat} : ∀ f left, (mr_grp L cv f left).length ≤ f := by
  intro f
  induction f with
  | zero => intro left; exact Nat.le_refl 0
  | succ f ih =>
    intro left
    rw [mr_grp]
    cases Nat.beq left 0
    · rw [cond_false, mr_fn_eq, List.length_cons]
      exact Nat.succ_le_succ (ih _)
    · exact Nat.zero_le _
theorem mr_gs_lt {cf : Nat → Nat} {cv : Nat} : ∀ s ∈ mr_gs (mr_E cf 20) cv, s < 2 ^ 20 := mr_grp_lt mr_near_E 20 _ (mr_edge_lt mr_near_E)
theorem mr_gs_len {L : List (Nat × Nat × Nat)} {cv : Nat} : (mr_gs L cv).length ≤ 20 := mr_grp_len 20 _
/-- the cells of a set -/
def mr_cs (s : Nat) : Nat → List Nat
  | 0 => []
  | n + 1 => if s.testBit n = true then mr_cs s n ++ [n] else mr_cs s n
theorem mr_cs_len (s : Nat) : ∀ n, (mr_cs s n).length ≤ n := by
  intro n
  induction n with
  | zero => exact Nat.le_refl 0
  | succ n ih =>
    rw [mr_cs]
    split
    · rw [List.length_append, List.length_singleton]; omega
    · omega
theorem mr_cs_mem (s : Nat) : ∀ n, ∀ c ∈ mr_cs s n, c < n := by
  intro n
  induction n with
  | zero => intro c hc; exact absurd hc (by simp [mr_cs])
  | succ n ih =>
    intro c hc
    rw [mr_cs] at hc
    split at hc
    · rw [List.mem_append, List.mem_singleton] at hc
      rcases hc with hc | hc
      · have := ih c hc; omega
      · omega
    · have := ih c hc; omega
theorem mr_cs_nd (s : Nat) : ∀ n, (mr_cs s n).Nodup := by
  intro n
  induction n with
  | zero => exact List.nodup_nil
  | succ n ih =>
    rw [mr_cs]
    split
    · rw [List.nodup_append]
      refine ⟨ih, by simp, fun a ha b hb => ?_⟩
      rw [List.mem_singleton] at hb
      have := mr_cs_mem s n a ha
      omega
    · exact ih
section
variable {fw fv fg fr fe fm fd ff fk : Int32} {a1 a2 a3 a4 a5 a6 a7 a8 a9 a10 : Nat → Int32}
theorem mr_linked {post : Int32 → Prop} {cf : Nat → Nat} {cv s : Nat} (hC : mr_C cf a1) (hN : mr_N a2) (hp : post (nI (mr_link (mr_E cf 20) cv s))) : wpX_linkedTo post (fw, (nI cv), fg, fr, fe, fm, fd, ff, fk, a1, a2, a3, a4, a5, a6, a7, a8, a9, a10) (nI s) := by
  show ∃ n, wX_linkedTo_4 post (nI s) fw (nI cv) fg fr fe fm fd ff fk a1 a2 a3 a4 a5 a6 a7 a8 a9 a10 n (nI s) 0
  refine pk_loop (σ := Unit) (fun n i _ => wX_linkedTo_4 post (nI s) fw (nI cv) fg fr fe fm fd ff fk a1 a2 a3 a4 a5 a6 a7 a8 a9 a10 n (nI (mr_link (mr_E cf i) cv s)) (nI i)) (fun _ _ => True) 20 0 () (by omega) trivial ?_ ?_
  · intro n _ _
    exact pk_le 20 20 (fun _ => hp) (fun z => absurd z (by omega))
  · intro n i _ hi _ hw
    have hw' := hw () trivial
    have ei : (nI i).toNatClampNeg = i := nI_clamp (by omega)
    refine pk_le 20 i (fun z => absurd z (by omega)) (fun _ => ?_)
    rw [ei, hN i hi]
    refine ⟨pk_in i 20 hi, mr_cl hC hi (fun e => ?_) (fun e => ⟨pk_in i 20 hi, ?_⟩)⟩
    · have e2 : mr_link (mr_E cf (i + 1)) cv s = mr_link (mr_E cf i) cv s := mr_F_z e
      rw [e2] at hw'
      exact nm_r (nI_1 i) hw'
    · have e2 : mr_link (mr_E cf (i + 1)) cv s = (bif Nat.beq (mr_near i &&& cv &&& s) 0 then mr_link (mr_E cf i) cv s else mr_link (mr_E cf i) cv s ||| (mr_near i &&& cv)) := mr_F_s e
      rw [mr_and, mr_and]
      refine pk_eq (mr_near i &&& cv &&& s) 0 (fun e3 => ?_) (fun e3 => ⟨pk_in i 20 hi, ?_⟩) (ha := ?_)
      · rw [mr_beq_t e3, cond_true] at e2
        rw [e2] at hw'
        exact nm_r (nI_1 i) hw'
      · rw [mr_beq_f e3, cond_false] at e2
        rw [e2] at hw'
        rw [mr_or]
        exact nm_e (nm_r (nI_1 i) hw')
      · exact mr_and_lt (mr_and_lt (Nat.lt_trans (mr_near_lt i) (by decide)))
theorem mr_fg84 {post : St2 → Prop} {cf : Nat → Nat} {cv s : Nat} {x2 x3 : Int32} {J : Int32 → Int32 → Int32 → (Nat → Int32) → (Nat → Int32) → (Nat → Int32) → (Nat → Int32) → (Nat → Int32) → (Nat → Int32) → (Nat → Int32) → (Nat → Int32) → (Nat → Int32) → (Nat → Int32) → Prop} {g : Nat} (hg : g < 20) (hC : mr_C cf a1) (hN : mr_N a2)
    (hp : J (x2 &&& (nI (mr_it (mr_link (mr_E cf 20) cv) 20 s) ^^^ (-1))) (x3 + 1) (nI (g + 1)) a1 a2 (upd a3 g (nI (mr_it (mr_link (mr_E cf 20) cv) 20 s))) a4 a5 a6 a7 a8 a9 a10) : ∃ n, wX_findGroups_84 post J x2 x3 fw (nI cv) (nI g) fr fe fm fd ff fk a1 a2 a3 a4 a5 a6 a7 a8 a9 a10 n (nI s) 0 := by
  refine pk_loop (σ := Unit) (fun n i _ => wX_findGroups_84 post J x2 x3 fw (nI cv) (nI g) fr fe fm fd ff fk a1 a2 a3 a4 a5 a6 a7 a8 a9 a10 n (nI (mr_it (mr_link (mr_E cf 20) cv) i s)) (nI i)) (fun _ _ => True) 20 0 () (by omega) trivial ?_ ?_
  · intro n _ _
    refine pk_le 20 20 (fun _ => ?_) (fun z => absurd z (by omega))
    rw [nI_clamp (show g < 2 ^ 31 by omega)]
    exact ⟨pk_in g 20 hg, nm_e (nm_r (nI_1 g) (nm_e (nm_e hp)))⟩
  · intro n i _ hi _ hw
    refine pk_le 20 i (fun z => absurd z (by omega)) (fun _ => ?_)
    exact mr_linked hC hN (nm_r (nI_1 i) (hw () trivial))
theorem mr_fg65 {post : St2 → Prop} {cf : Nat → Nat} {cv : Nat} (hC : mr_C cf a1) (hN : mr_N a2) : ∀ (f g left n : Nat) (a3 : Nat → Int32), g + f = 20 → f < n → left < 2 ^ 20 →
    (∀ a3', (∀ j, j < g → a3' j = a3 j) → (∀ j, j < (mr_grp (mr_E cf 20) cv f left).length → a3' (g + j) = nI ((mr_grp (mr_E cf 20) cv f left).getD j 0)) → post (fw, (nI cv), (nI (g + (mr_grp (mr_E cf 20) cv f left).length)), fr, fe, fm, fd, ff, fk, a1, a2, a3', a4, a5, a6, a7, a8, a9, a10)) →
    wX_findGroups_65 post fw (nI cv) fr fe fm fd ff fk n (nI left) (nI g) (nI g) a1 a2 a3 a4 a5 a6 a7 a8 a9 a10 := by
  intro f
  induction f with
  | zero =>
    intro g left n a3 hg hn hl H
    obtain ⟨n, rfl⟩ : ∃ m, n = m + 1 := ⟨n - 1, by omega⟩
    exact pk_le 20 g (fun _ => H a3 (fun _ _ => rfl) (fun j hj => absurd hj (by simp [mr_grp]))) (fun z => absurd z (by omega))
  | succ f ih =>
    intro g left n a3 hg hn hl H
    obtain ⟨n, rfl⟩ : ∃ m, n = m + 1 := ⟨n - 1, by omega⟩
    refine pk_le 20 g (fun z => absurd z (by omega)) (fun _ => ?_)
    have hl' : left < 2 ^ 31 := Nat.lt_trans hl (by decide)
    refine pk_eq left 0 (fun e => ?_) (fun e => ?_)
    · have e2 : mr_grp (mr_E cf 20) cv (f + 1) left = [] := by rw [mr_grp, mr_beq_t e, cond_true]
      rw [e2] at H
      exact H a3 (fun _ _ => rfl) (fun j hj => absurd hj (by simp))
    · have e2 : mr_grp (mr_E cf 20) cv (f + 1) left = mr_it (mr_link (mr_E cf 20) cv) 20 (left &&& (4294967296 - left)) :: mr_grp (mr_E cf 20) cv f (mr_dn left (mr_it (mr_link (mr_E cf 20) cv) 20 (left &&& (4294967296 - left)))) := by rw [mr_grp, mr_beq_f e, cond_false, mr_fn_eq]
      rw [e2] at H
      refine nm_r (mr_low (by omega)) (mr_fg84 (by omega) hC hN ?_)
      rw [mr_andn, nI_1]
      generalize hs : mr_it (mr_link (mr_E cf 20) cv) 20 (left &&& (4294967296 - left)) = s at H
      refine ih (g + 1) (mr_dn left s) n _ (by omega) (by omega) (mr_dn_lt hl) (fun a3' h1 h2 => ?_)
      have H' := H a3' (fun j hj => by rw [h1 j (by omega), pk_un (by omega)]) (fun j hj => by
        cases j with
        | zero => rw [Nat.add_zero, h1 g (by omega), pk_us]; rfl
        | succ j =>
          rw [show g + (j + 1) = g + 1 + j by omega, h2 j (by simpa using hj)]
          rfl)
      rw [List.length_cons, show g + ((mr_grp (mr_E cf 20) cv f (mr_dn left s)).length + 1) = g + 1 + (mr_grp (mr_E cf 20) cv f (mr_dn left s)).length by omega] at H'
      exact H'
theorem mr_findGroups {post : St2 → Prop} {cf : Nat → Nat} {cv : Nat} (hC : mr_C cf a1) (hN : mr_N a2)
    (H : ∀ a3', mr_H (mr_gs (mr_E cf 20) cv) a3' → post (fw, (nI cv), (nI (mr_gs (mr_E cf 20) cv).length), (nI (mr_dn cv (mr_edge (mr_E cf 20) cv))), fe, fm, fd, ff, fk, a1, a2, a3', a4, a5, a6, a7, a8, a9, a10)) : wpX_findGroups post (fw, (nI cv), fg, fr, fe, fm, fd, ff, fk, a1, a2, a3, a4, a5, a6, a7, a8, a9, a10) := by
  show ∃ n, wX_findGroups_9 post fw (nI cv) 0 fr fe fm fd ff fk a1 a2 a3 a4 a5 a6 a7 a8 a9 a10 n 0 0
  refine pk_loop (σ := Unit) (fun n i _ => wX_findGroups_9 post fw (nI cv) 0 fr fe fm fd ff fk a1 a2 a3 a4 a5 a6 a7 a8 a9 a10 n (nI (mr_edge (mr_E cf i) cv)) (nI i)) (fun _ _ => True) 20 0 () (by omega) trivial ?_ ?_
  · intro n _ _
    refine pk_le 20 20 (fun _ => nm_r (mr_andn _ _) ⟨21, ?_⟩) (fun z => absurd z (by omega))
    refine mr_fg65 hC hN 20 0 _ 21 a3 (by omega) (by omega) (mr_edge_lt mr_near_E) (fun a3' _ h2 => ?_)
    have h3 : mr_H (mr_gs (mr_E cf 20) cv) a3' := fun j hj => by
      have := h2 j hj
      rw [Nat.zero_add] at this
      exact this
    have := H a3' h3
    rw [Nat.zero_add]
    exact this
  · intro n i _ hi _ hw
    have hw' := hw () trivial
    have ei : (nI i).toNatClampNeg = i := nI_clamp (by omega)
    refine pk_le 20 i (fun z => absurd z (by omega)) (fun _ => ?_)
    rw [ei, hN i hi]
    refine ⟨pk_in i 20 hi, mr_cl hC hi (fun e => ?_) (fun e => ⟨pk_in i 20 hi, ?_⟩)⟩
    · have e2 : mr_edge (mr_E cf (i + 1)) cv = mr_edge (mr_E cf i) cv := mr_F_z e
      rw [e2] at hw'
      exact nm_r (nI_1 i) hw'
    · have e2 : mr_edge (mr_E cf (i + 1)) cv = mr_edge (mr_E cf i) cv ||| (mr_near i &&& cv) := mr_F_s e
      rw [e2] at hw'
      rw [mr_and, mr_or]
      exact nm_e (nm_r (nI_1 i) hw')
theorem mr_emptyCluesGood {post : Int32 → Prop} {cf : Nat → Nat} {cv : Nat} (hC : mr_C cf a1) (hN : mr_N a2) (hp : post (mr_b (mr_ecg (mr_E cf 20) cv))) : wpX_emptyCluesGood post (fw, (nI cv), fg, fr, fe, fm, fd, ff, fk, a1, a2, a3, a4, a5, a6, a7, a8, a9, a10) := by
  show ∃ n, wX_emptyCluesGood_4 post fw (nI cv) fg fr fe fm fd ff fk a1 a2 a3 a4 a5 a6 a7 a8 a9 a10 n 1 0
  refine pk_loop (σ := Unit) (fun n i _ => wX_emptyCluesGood_4 post fw (nI cv) fg fr fe fm fd ff fk a1 a2 a3 a4 a5 a6 a7 a8 a9 a10 n (mr_b (mr_ecg (mr_E cf i) cv)) (nI i)) (fun _ _ => True) 20 0 () (by omega) trivial ?_ ?_
  · intro n _ _
    exact pk_le 20 20 (fun _ => ⟨mr_nb _, hp⟩) (fun z => absurd z (by omega))
  · intro n i _ hi _ hw
    have hw' := hw () trivial
    have ei : (nI i).toNatClampNeg = i := nI_clamp (by omega)
    have h1 := (hC i hi).1
    refine pk_le 20 i (fun z => absurd z (by omega)) (fun _ => ?_)
    unfold wX_emptyCluesGood_38 wX_emptyCluesGood_39
    rw [ei, hN i hi, mr_and]
    refine ⟨pk_in i 20 hi, mr_cl hC hi (fun e => ?_) (fun e => ⟨pk_in i 20 hi, ?_⟩)⟩
    · rw [mr_E_z e] at hw'
      generalize mr_ecg (mr_E cf i) cv = b at hw' ⊢
      refine mr_bz (fun hb => ?_) (fun hb => br_t rfl ?_)
      · subst hb
        exact nm_r (nI_1 i) hw'
      · subst hb
        exact nm_r (nI_1 i) hw'
    · have e2 : mr_ecg (mr_E cf (i + 1)) cv = (mr_ecg (mr_E cf i) cv && (!(Nat.beq (mr_near i &&& cv) 0) || Nat.beq (cf i - 1) 0)) := by
        rw [mr_E_s e]
        simp [mr_ecg]
      rw [e2] at hw'
      generalize mr_ecg (mr_E cf i) cv = b at hw' ⊢
      have hn : mr_near i &&& cv < 2 ^ 31 := mr_and_lt (Nat.lt_trans (mr_near_lt i) (by decide))
      refine pk_eq (mr_near i &&& cv) 0 (fun e3 => mr_bz (fun hb => ?_) (fun hb => br_f (by decide) ⟨pk_in i 20 hi, ?_⟩)) (fun e3 => mr_bz (fun hb => ?_) (fun hb => br_t rfl ?_))
      · subst hb
        exact nm_r (nI_1 i) hw'
      · subst hb
        rw [mr_beq_t e3] at hw'
        rw [mr_clv hC hi e]
        refine pk_eq (cf i - 1) 0 (fun e4 => ?_) (fun e4 => ?_)
        · rw [mr_beq_t e4] at hw'
          exact nm_r (nI_1 i) hw'
        · rw [mr_beq_f e4] at hw'
          exact nm_r (nI_1 i) hw'
      · subst hb
        exact nm_r (nI_1 i) hw'
      · subst hb
        rw [mr_beq_f e3] at hw'
        exact nm_r (nI_1 i) hw'
theorem mr_refresh {post : St2 → Prop} {cf : Nat → Nat} (hC : mr_C cf a1) (hp : post (fw, (nI (mr_cov cf 20)), fg, fr, fe, fm, fd, ff, fk, a1, a2, a3, a4, a5, a6, a7, a8, a9, a10)) : wpX_refresh post (fw, fv, fg, fr, fe, fm, fd, ff, fk, a1, a2, a3, a4, a5, a6, a7, a8, a9, a10) := by
  show ∃ n, wX_refresh_7 post fw fg fr fe fm fd ff fk a1 a2 a3 a4 a5 a6 a7 a8 a9 a10 n 0 0
  refine pk_loop (σ := Unit) (fun n i _ => wX_refresh_7 post fw fg fr fe fm fd ff fk a1 a2 a3 a4 a5 a6 a7 a8 a9 a10 n (nI i) (nI (mr_cov cf i))) (fun _ _ => True) 20 0 () (by omega) trivial ?_ ?_
  · intro n _ _
    exact pk_le 20 20 (fun _ => hp) (fun z => absurd z (by omega))
  · intro n i _ hi _ hw
    have hw' := hw () trivial
    have ei : (nI i).toNatClampNeg = i := nI_clamp (by omega)
    refine pk_le 20 i (fun z => absurd z (by omega)) (fun _ => ?_)
    rw [ei]
    refine ⟨pk_in i 20 hi, mr_cl hC hi (fun e => ?_) (fun e => ?_)⟩
    · have e2 : mr_cov cf (i + 1) = mr_cov cf i ||| 2 ^ i := by simp [mr_cov, e]
      rw [e2] at hw'
      rw [mr_shl i (by omega), mr_or]
      exact nm_e (nm_r (nI_1 i) hw')
    · have e2 : mr_cov cf (i + 1) = mr_cov cf i := by simp [mr_cov, e]
      rw [e2] at hw'
      exact nm_r (nI_1 i) hw'
theorem mr_listCells {post : St2 → Prop} {s : Nat} (hs : s < 2 ^ 20) (H : ∀ a9', mr_H (mr_cs s 20) a9' → post (fw, fv, fg, fr, (nI (mr_cs s 20).length), fm, fd, ff, fk, a1, a2, a3, a4, a5, a6, a7, a8, a9', a10)) : wpX_listCells post (fw, fv, fg, fr, fe, fm, fd, ff, fk, a1, a2, a3, a4, a5, a6, a7, a8, a9, a10) (nI s) := by
  show ∃ n, wX_listCells_7 post (nI s) fw fv fg fr fm fd ff fk n 0 0 a1 a2 a3 a4 a5 a6 a7 a8 a9 a10
  refine pk_loop (fun n i a9' => wX_listCells_7 post (nI s) fw fv fg fr fm fd ff fk n (nI i) (nI (mr_cs s i).length) a1 a2 a3 a4 a5 a6 a7 a8 a9' a10) (fun i a9' => mr_H (mr_cs s i) a9') 20 0 a9 (by omega) mr_H_0 ?_ ?_
  · intro n a9' h
    exact pk_le 20 20 (fun _ => H a9' h) (fun z => absurd z (by omega))
  · intro n i a9' hi h hw
    have hl := mr_cs_len s i
    refine pk_le 20 i (fun z => absurd z (by omega)) (fun _ => ?_)
    refine mr_hasE (Nat.lt_trans hs (by decide)) (by omega) (mr_bz (fun e => ?_) (fun e => ?_))
    · have e2 : mr_cs s (i + 1) = mr_cs s i := by simp [mr_cs, e]
      have hw' := hw a9' (by rw [e2]; exact h)
      rw [e2] at hw'
      exact nm_r (nI_1 i) hw'
    · have e2 : mr_cs s (i + 1) = mr_cs s i ++ [i] := by simp [mr_cs, e]
      have hw' := hw _ (by rw [e2]; exact mr_H_add i h)
      rw [e2, List.length_append, List.length_singleton] at hw'
      rw [nI_clamp (show (mr_cs s i).length < 2 ^ 31 by omega)]
      exact ⟨pk_in (mr_cs s i).length 20 (by omega), nm_e (nm_r (nI_1 _) (nm_r (nI_1 i) hw'))⟩
end
end
section
/-! the fillings of a group -/
def mr_op (r : List Nat) : Nat := r.foldl (fun o c => o ||| 2 ^ c) 0
def mr_meet (nr cl m o : Nat) : Bool := Nat.ble (mr_bits (nr &&& m)) cl && Nat.ble cl (mr_bits (nr &&& m) + mr_bits (nr &&& o))
def mr_std (L : List (Nat × Nat × Nat)) (c o m : Nat) : Bool := L.all (fun p => !(p.2.1.testBit c) || mr_meet p.2.1 p.2.2 m o)
def mr_dfs (L : List (Nat × Nat × Nat)) : List Nat → Nat → List Nat
  | [], m => [m]
  | c :: r, m => (bif mr_std L c (mr_op r) m then mr_dfs L r m else []) ++ (bif mr_std L c (mr_op r) (m ||| 2 ^ c) then mr_dfs L r (m ||| 2 ^ c) else [])
/-- how many of the fillings have n mines and are picked -/
def mr_ct (P : Nat → Bool) : List Nat → Nat → Nat
  | [], _ => 0
  | m :: r, n => (bif P m && Nat.beq (mr_bits m) n then 1 else 0) + mr_ct P r n
theorem mr_ct_app {P : Nat → Bool} (n : Nat) (b : List Nat) : ∀ a, mr_ct P (a ++ b) n = mr_ct P a n + mr_ct P b n := by
  intro a
  induction a with
  | nil => show mr_ct P b n = 0 + mr_ct P b n; omega
  | cons x r ih =>
    show (bif P x && Nat.beq (mr_bits x) n then 1 else 0) + mr_ct P (r ++ b) n = (bif P x && Nat.beq (mr_bits x) n then 1 else 0) + mr_ct P r n + mr_ct P b n
    rw [ih]
    omega
/-- the question: 0 none, c + 1 the cell c -/
def mr_q (q m : Nat) : Bool := !(Nat.beq q 0) && m.testBit (q - 1)
def mr_T : Nat → Nat
  | 0 => 1
  | n + 1 => 3 + 2 * mr_T n
theorem mr_T_le : ∀ n, n < 21 → mr_T n ≤ 4194301 := by decide +kernel
theorem mr_ble_t {a b : Nat} (h : a ≤ b) : Nat.ble a b = true := Nat.ble_eq_true_of_le h
theorem mr_ble_f {a b : Nat} (h : b < a) : Nat.ble a b = false := by
  cases hb : Nat.ble a b
  · rfl
  · exact absurd (Nat.le_of_ble_eq_true hb) (by omega)
theorem mr_all_mono {cf : Nat → Nat} {f : Nat × Nat × Nat → Bool} {i : Nat} : ∀ k, (mr_E cf i).all f = false → (mr_E cf (i + k)).all f = false := by
  intro k
  induction k with
  | zero => intro h; exact h
  | succ k ih =>
    intro h
    by_cases e : cf (i + k) = 0
    · rw [← Nat.add_assoc, mr_E_z e]
      exact ih h
    · rw [← Nat.add_assoc, mr_E_s e, List.all_append, ih h]
      rfl
theorem mr_clr {m c : Nat} (h : m.testBit c = false) : mr_dn m (2 ^ c) = m := by
  apply Nat.eq_of_testBit_eq
  intro i
  unfold mr_dn
  rw [Nat.testBit_xor, Nat.testBit_and, Nat.testBit_two_pow]
  by_cases e : c = i
  · subst e
    rw [h]
    rfl
  · rw [decide_eq_false e]
    cases m.testBit i <;> rfl
theorem mr_clr2 {m c : Nat} (h : m.testBit c = false) : mr_dn (m ||| 2 ^ c) (2 ^ c) = m := by
  apply Nat.eq_of_testBit_eq
  intro i
  unfold mr_dn
  rw [Nat.testBit_xor, Nat.testBit_and, Nat.testBit_or, Nat.testBit_two_pow]
  by_cases e : c = i
  · subst e
    rw [h, decide_eq_true rfl]
    rfl
  · rw [decide_eq_false e]
    cases m.testBit i <;> rfl
theorem mr_orb {m c i : Nat} (h : m.testBit i = false) (hc : c ≠ i) : (m ||| 2 ^ c).testBit i = false := by
  rw [Nat.testBit_or, h, Nat.testBit_two_pow, decide_eq_false hc]
  rfl
theorem mr_21 (g n : Nat) : (21 : Int32) * nI g + nI n = nI (21 * g + n) := by
  rw [show (21 : Int32) = nI 21 from rfl, pk_mul, nI_add]
def mr_u4 (g m : Nat) (a : Nat → Int32) : Nat → Int32 := upd a (21 * g + mr_bits m) (a (21 * g + mr_bits m) + 1)
theorem mr_u4_at {P : Nat → Bool} {g m : Nat} {a : Nat → Int32} (n : Nat) (h : P m = true) : mr_u4 g m a (21 * g + n) = a (21 * g + n) + nI (mr_ct P [m] n) := by
  unfold mr_u4
  show _ = a (21 * g + n) + nI ((bif P m && Nat.beq (mr_bits m) n then 1 else 0) + 0)
  rw [h, Bool.true_and]
  by_cases e : mr_bits m = n
  · subst e
    rw [pk_us, Nat.beq_refl]
    rfl
  · rw [pk_un (by omega), mr_beq_f e]
    exact (Int32.add_zero _).symm
theorem mr_u5_at {P : Nat → Bool} {g m : Nat} {a : Nat → Int32} (n : Nat) (h : P m = false) : a (21 * g + n) = a (21 * g + n) + nI (mr_ct P [m] n) := by
  show _ = a (21 * g + n) + nI ((bif P m && Nat.beq (mr_bits m) n then 1 else 0) + 0)
  rw [h]
  exact (Int32.add_zero _).symm
def mr_u5 (q g m : Nat) (a : Nat → Int32) : Nat → Int32 := bif mr_q q m then mr_u4 g m a else a
theorem mr_u5_eq {q g m : Nat} {a : Nat → Int32} (n : Nat) : mr_u5 q g m a (21 * g + n) = a (21 * g + n) + nI (mr_ct (mr_q q) [m] n) := by
  unfold mr_u5
  cases h : mr_q q m
  · exact mr_u5_at n h
  · exact mr_u4_at n h
section
variable {fw fv fg fr fe fm fd ff fk : Int32} {a1 a2 a3 a4 a5 a6 a7 a8 a9 a10 : Nat → Int32}
theorem mr_canMeet {post : Int32 → Prop} {cf : Nat → Nat} {c m o : Nat} (hC : mr_C cf a1) (hN : mr_N a2) (hc : c < 20) (h0 : cf c ≠ 0) (hp : post (mr_b (mr_meet (mr_near c) (cf c - 1) m o))) : wpX_canMeet post (fw, fv, fg, fr, fe, (nI m), fd, ff, fk, a1, a2, a3, a4, a5, a6, a7, a8, a9, a10) (nI c) (nI o) := by
  unfold wpX_canMeet
  dsimp only
  have h9 := (hC c hc).1
  have b1 := mr_bits_le (mr_near c &&& m)
  have b2 := mr_bits_le (mr_near c &&& o)
  have hn : mr_near c < 2 ^ 31 := Nat.lt_trans (mr_near_lt c) (by decide)
  rw [nI_clamp (show c < 2 ^ 31 by omega), hN c hc, mr_clv hC hc h0, mr_and, mr_and]
  refine ⟨pk_in c 20 hc, mr_bitsOf (mr_and_lt hn) ⟨pk_in c 20 hc, mr_bitsOf (mr_and_lt hn) ⟨pk_in c 20 hc, pk_lt (cf c - 1) (mr_bits (mr_near c &&& m)) (fun z => ?_) (fun z => ⟨pk_in c 20 hc, ?_⟩)⟩⟩⟩
  · unfold mr_meet at hp
    rw [mr_ble_f z] at hp
    exact hp
  · rw [nI_add]
    refine pk_lt (mr_bits (mr_near c &&& m) + mr_bits (mr_near c &&& o)) (cf c - 1) (fun y => ?_) (fun y => ?_)
    · unfold mr_meet at hp
      rw [mr_ble_t z, mr_ble_f y] at hp
      exact hp
    · unfold mr_meet at hp
      rw [mr_ble_t z, mr_ble_t y] at hp
      exact hp
theorem mr_canStand {post : Int32 → Prop} {cf : Nat → Nat} {c m o : Nat} (hC : mr_C cf a1) (hN : mr_N a2) (hc : c < 20) (hp : post (mr_b (mr_std (mr_E cf 20) c o m))) : wpX_canStand post (fw, fv, fg, fr, fe, (nI m), fd, ff, fk, a1, a2, a3, a4, a5, a6, a7, a8, a9, a10) (nI c) (nI o) := by
  show ∃ n, wX_canStand_5 post (nI c) (nI o) fw fv fg fr fe (nI m) fd ff fk a1 a2 a3 a4 a5 a6 a7 a8 a9 a10 n 1 0
  refine pk_loop (σ := Unit) (fun n i _ => wX_canStand_5 post (nI c) (nI o) fw fv fg fr fe (nI m) fd ff fk a1 a2 a3 a4 a5 a6 a7 a8 a9 a10 n (mr_b (mr_std (mr_E cf i) c o m)) (nI i)) (fun _ _ => True) 20 0 () (by omega) trivial ?_ ?_
  · intro n _ _
    exact pk_le 20 20 (fun _ => ⟨mr_nb _, hp⟩) (fun z => absurd z (by omega))
  · intro n i _ hi _ hw
    have hw' := hw () trivial
    have ei : (nI i).toNatClampNeg = i := nI_clamp (by omega)
    refine pk_le 20 i (fun z => absurd z (by omega)) (fun _ => ?_)
    refine mr_bz (fun hb => ⟨mr_nb _, ?_⟩) (fun hb => ?_)
    · have h2 := mr_all_mono (20 - i) hb
      rw [show i + (20 - i) = 20 by omega] at h2
      have h3 : mr_std (mr_E cf 20) c o m = false := h2
      rw [h3] at hp
      rw [hb]
      exact hp
    · rw [ei, hN i hi]
      refine ⟨pk_in i 20 hi, mr_cl hC hi (fun e => ?_) (fun e => ⟨pk_in i 20 hi, ?_⟩)⟩
      · rw [mr_E_z e, hb] at hw'
        exact nm_r (nI_1 i) hw'
      · have e2 : mr_std (mr_E cf (i + 1)) c o m = (!((mr_near i).testBit c) || mr_meet (mr_near i) (cf i - 1) m o) := by
          rw [mr_E_s e]
          unfold mr_std at hb ⊢
          rw [List.all_append, hb]
          simp
        rw [e2] at hw'
        refine mr_hasE (Nat.lt_trans (mr_near_lt i) (by decide)) (by omega) (mr_bz (fun e3 => ?_) (fun e3 => ?_))
        · rw [e3] at hw'
          exact nm_r (nI_1 i) hw'
        · rw [e3] at hw'
          refine mr_canMeet hC hN hi e (mr_bz (fun e4 => ?_) (fun e4 => ?_))
          · rw [e4] at hw'
            exact nm_r (nI_1 i) hw'
          · rw [e4] at hw'
            exact nm_r (nI_1 i) hw'
theorem mr_ofL {post : Int32 → Prop} {cs : List Nat} (hcs : mr_H cs a9) (hl : cs.length ≤ 20) (hm : ∀ c ∈ cs, c < 20) : ∀ (f i o n : Nat), i + f = cs.length → f < n → post (nI ((cs.drop i).foldl (fun o c => o ||| 2 ^ c) o)) → wX_openFrom_4 post fw fv fg fr (nI cs.length) fm fd ff fk a1 a2 a3 a4 a5 a6 a7 a8 a9 a10 n (nI o) (nI i) := by
  intro f
  induction f with
  | zero =>
    intro i o n hi hn hp
    obtain ⟨n, rfl⟩ : ∃ m, n = m + 1 := ⟨n - 1, by omega⟩
    rw [List.drop_eq_nil_of_le (by omega)] at hp
    exact pk_le cs.length i (fun _ => hp) (fun z => absurd z (by omega))
  | succ f ih =>
    intro i o n hi hn hp
    obtain ⟨n, rfl⟩ : ∃ m, n = m + 1 := ⟨n - 1, by omega⟩
    have hi' : i < cs.length := by omega
    have hc : cs[i] < 20 := hm _ (List.getElem_mem hi')
    refine pk_le cs.length i (fun z => absurd z (by omega)) (fun _ => ?_)
    rw [nI_clamp (show i < 2 ^ 31 by omega), hcs i hi', mr_getD hi', mr_shl _ (by omega), mr_or]
    rw [List.drop_eq_getElem_cons hi', List.foldl_cons] at hp
    exact ⟨pk_in i 20 (by omega), nm_e (nm_r (nI_1 i) (ih (i + 1) _ n (by omega) (by omega) hp))⟩
theorem mr_openFrom {post : Int32 → Prop} {cs : List Nat} {k : Nat} (hcs : mr_H cs a9) (hl : cs.length ≤ 20) (hm : ∀ c ∈ cs, c < 20) (hk : k ≤ cs.length) (hp : post (nI (mr_op (cs.drop k)))) : wpX_openFrom post (fw, fv, fg, fr, (nI cs.length), fm, fd, ff, fk, a1, a2, a3, a4, a5, a6, a7, a8, a9, a10) (nI k) := by
  show ∃ n, wX_openFrom_4 post fw fv fg fr (nI cs.length) fm fd ff fk a1 a2 a3 a4 a5 a6 a7 a8 a9 a10 n 0 (nI k)
  exact ⟨21, mr_ofL hcs hl hm (cs.length - k) k 0 21 (by omega) (by omega) hp⟩
theorem mr_try38 {post : Int32 → St2 → Prop} {cf : Nat → Nat} {cs : List Nat} {k c m s : Nat} (hC : mr_C cf a1) (hN : mr_N a2) (hcs : mr_H cs a9) (hl : cs.length ≤ 20) (hm : ∀ c ∈ cs, c < 20) (hk : k < cs.length) (hc : c < 20) (hs : a10 k = nI s)
    (ht : mr_std (mr_E cf 20) c (mr_op (cs.drop (k + 1))) m = true → post (nI (k + 1)) (fw, fv, fg, fr, (nI cs.length), (nI m), fd, ff, fk, a1, a2, a3, a4, a5, a6, a7, a8, a9, (upd (upd a10 k (nI (s + 1))) (k + 1) 0)))
    (hf : mr_std (mr_E cf 20) c (mr_op (cs.drop (k + 1))) m = false → post (nI k) (fw, fv, fg, fr, (nI cs.length), (nI m), fd, ff, fk, a1, a2, a3, a4, a5, a6, a7, a8, a9, (upd a10 k (nI (s + 1))))) :
    wX_tryCell_38 post (nI k) (nI c) (nI m) fw fv fg fr (nI cs.length) fm fd ff fk a1 a2 a3 a4 a5 a6 a7 a8 a9 a10 := by
  unfold wX_tryCell_38 wX_tryCell_81
  rw [nI_1 k, nI_clamp (show k < 2 ^ 31 by omega), nI_clamp (show k + 1 < 2 ^ 31 by omega), hs, nI_1 s]
  refine ⟨pk_in k 21 (by omega), pk_in k 21 (by omega), nm_e (mr_openFrom hcs hl hm (by omega) (mr_canStand hC hN hc (mr_bz (fun e => ?_) (fun e => ⟨pk_in (k + 1) 21 (by omega), nm_e ?_⟩))))⟩
  · rw [e]
    exact br_t rfl (hf e)
  · rw [e]
    exact br_f (by decide) (ht e)
theorem mr_noteWay {post : St2 → Prop} {g q m : Nat} (hg : g < 20) (hq : q ≤ 20) (hm : m < 2 ^ 20) (hp : post (fw, fv, fg, fr, fe, (nI m), fd, ff, fk, a1, a2, a3, (mr_u4 g m a4), (mr_u5 q g m a5), a6, a7, a8, a9, a10)) : wpX_noteWay post (fw, fv, fg, fr, fe, (nI m), fd, ff, fk, a1, a2, a3, a4, a5, a6, a7, a8, a9, a10) (nI g) (mr_dec q) := by
  unfold wpX_noteWay
  dsimp only
  have hm' : m < 2 ^ 31 := Nat.lt_trans hm (by decide)
  have hb := mr_bits_le m
  refine mr_bitsOf hm' ?_
  rw [mr_21, nI_clamp (show 21 * g + mr_bits m < 2 ^ 31 by omega)]
  refine ⟨pk_in (21 * g + mr_bits m) 420 (by omega), pk_in (21 * g + mr_bits m) 420 (by omega), nm_e (ek_if (mr_dec_m q (by omega)) (fun e => ?_) (fun e => ?_))⟩
  · subst e
    exact hp
  · rw [mr_dec_p e]
    have e1 : Nat.beq q 0 = false := mr_beq_f e
    refine mr_hasE hm' (by omega) (mr_bz (fun e2 => ?_) (fun e2 => ⟨pk_in (21 * g + mr_bits m) 420 (by omega), pk_in (21 * g + mr_bits m) 420 (by omega), nm_e ?_⟩))
    · have e3 : mr_u5 q g m a5 = a5 := by
        unfold mr_u5 mr_q
        rw [e1, e2]
        rfl
      rw [e3] at hp
      exact hp
    · have e3 : mr_u5 q g m a5 = mr_u4 g m a5 := by
        unfold mr_u5 mr_q
        rw [e1, e2]
        rfl
      rw [e3] at hp
      exact hp
theorem mr_fstep {post : St2 → Prop} {cf : Nat → Nat} {cs : List Nat} {x1 x2 : Int32} {k c m m' R s : Nat} (hC : mr_C cf a1) (hN : mr_N a2) (hcs : mr_H cs a9) (hl : cs.length ≤ 20) (hm : ∀ c ∈ cs, c < 20) (hk : k < cs.length) (hc : cs.getD k 0 = c) (hR : R < 5000000) (hs : a10 k = nI s)
    (hm' : s = 0 ∧ m' = mr_dn m (2 ^ c) ∨ s = 1 ∧ m' = m ||| 2 ^ c)
    (ht : mr_std (mr_E cf 20) c (mr_op (cs.drop (k + 1))) m' = true → ∃ n, wX_fillGroup_65 post x1 x2 n (nI (k + 1)) (nI (R + 1)) fw fv fg fr (nI cs.length) (nI m') fd ff fk a1 a2 a3 a4 a5 a6 a7 a8 a9 (upd (upd a10 k (nI (s + 1))) (k + 1) 0))
    (hf : mr_std (mr_E cf 20) c (mr_op (cs.drop (k + 1))) m' = false → ∃ n, wX_fillGroup_65 post x1 x2 n (nI k) (nI (R + 1)) fw fv fg fr (nI cs.length) (nI m') fd ff fk a1 a2 a3 a4 a5 a6 a7 a8 a9 (upd a10 k (nI (s + 1)))) :
    ∃ n, wX_fillGroup_65 post x1 x2 n (nI k) (nI R) fw fv fg fr (nI cs.length) (nI m) fd ff fk a1 a2 a3 a4 a5 a6 a7 a8 a9 a10 := by
  have hc20 : c < 20 := by
    rw [← hc, mr_getD hk]
    exact hm _ (List.getElem_mem hk)
  have key : ∃ n, (mr_std (mr_E cf 20) c (mr_op (cs.drop (k + 1))) m' = true → wX_fillGroup_65 post x1 x2 n (nI (k + 1)) (nI (R + 1)) fw fv fg fr (nI cs.length) (nI m') fd ff fk a1 a2 a3 a4 a5 a6 a7 a8 a9 (upd (upd a10 k (nI (s + 1))) (k + 1) 0)) ∧
      (mr_std (mr_E cf 20) c (mr_op (cs.drop (k + 1))) m' = false → wX_fillGroup_65 post x1 x2 n (nI k) (nI (R + 1)) fw fv fg fr (nI cs.length) (nI m') fd ff fk a1 a2 a3 a4 a5 a6 a7 a8 a9 (upd a10 k (nI (s + 1)))) := by
    cases h : mr_std (mr_E cf 20) c (mr_op (cs.drop (k + 1))) m'
    · obtain ⟨n, hn⟩ := hf h
      exact ⟨n, fun z => absurd z (by decide), fun _ => hn⟩
    · obtain ⟨n, hn⟩ := ht h
      exact ⟨n, fun _ => hn, fun z => absurd z (by decide)⟩
  obtain ⟨n, ht', hf'⟩ := key
  refine ⟨n + 1, pk_le 5000000 R (fun z => absurd z (by omega)) (fun _ => br_f (nI_pos (by omega)) (pk_eq k cs.length (fun z => absurd z (by omega)) (fun _ => ?_)))⟩
  have ek : (nI k).toNatClampNeg = k := nI_clamp (by omega)
  rw [ek, hs]
  refine ⟨pk_in k 21 (by omega), pk_eq s 2 (fun z => absurd z (by omega)) (fun _ => ?_)⟩
  unfold wpX_tryCell
  dsimp only
  rw [ek, hcs k hk, hc, hs]
  refine ⟨pk_in k 20 (by omega), nm_e ⟨pk_in k 21 (by omega), ?_⟩⟩
  rw [mr_shl c (by omega), mr_andn, mr_or]
  rcases hm' with ⟨h1, h2⟩ | ⟨h1, h2⟩
  · refine pk_eq s 0 (fun _ => ?_) (fun z => absurd h1 z)
    rw [← h2]
    exact mr_try38 hC hN hcs hl hm hk hc20 hs (fun e => nm_r (nI_1 R) (ht' e)) (fun e => nm_r (nI_1 R) (hf' e))
  · refine pk_eq s 0 (fun z => absurd z (by omega)) (fun _ => ?_)
    rw [← h2]
    exact mr_try38 hC hN hcs hl hm hk hc20 hs (fun e => nm_r (nI_1 R) (ht' e)) (fun e => nm_r (nI_1 R) (hf' e))
/-- what a walk below a place adds -/
def mr_add (P : Nat → Bool) (g : Nat) (l : List Nat) (a a' : Nat → Int32) : Prop := ∀ n, n ≤ 20 → a' (21 * g + n) = a (21 * g + n) + nI (mr_ct P l n)
theorem mr_add_0 {P : Nat → Bool} {g : Nat} {a : Nat → Int32} : mr_add P g [] a a := fun n _ => (Int32.add_zero _).symm
theorem mr_add_app {P : Nat → Bool} {g : Nat} {l l' : List Nat} {a a' a'' : Nat → Int32} (h : mr_add P g l a a') (h' : mr_add P g l' a' a'') : mr_add P g (l ++ l') a a'' := fun n hn => by
  rw [h' n hn, h n hn, mr_ct_app, ← nI_add, Int32.add_assoc]
theorem mr_fdfs {post : St2 → Prop} {cf : Nat → Nat} {cs : List Nat} {g q : Nat} (hC : mr_C cf a1) (hN : mr_N a2) (hcs : mr_H cs a9) (hl : cs.length ≤ 20) (hm : ∀ c ∈ cs, c < 20) (hg : g < 20) (hq : q ≤ 20) :
    ∀ (rem : List Nat) (k m R : Nat) (a4 a5 a10 : Nat → Int32), cs.drop k = rem → k + rem.length = cs.length → rem.Nodup → (∀ c ∈ rem, m.testBit c = false) → m < 2 ^ 20 → (0 < rem.length → a10 k = nI 0) → R + mr_T rem.length ≤ 5000000 →
      (∀ (R' : Nat) (b4 b5 b10 : Nat → Int32), R' ≤ R + mr_T rem.length → (∀ j, j < k → b10 j = a10 j) → mr_add (fun _ => true) g (mr_dfs (mr_E cf 20) rem m) a4 b4 → mr_add (mr_q q) g (mr_dfs (mr_E cf 20) rem m) a5 b5 →
        ∃ n, wX_fillGroup_65 post (nI g) (mr_dec q) n (nI k + (-1)) (nI R') fw fv fg fr (nI cs.length) (nI m) fd ff fk a1 a2 a3 b4 b5 a6 a7 a8 a9 b10) →
      ∃ n, wX_fillGroup_65 post (nI g) (mr_dec q) n (nI k) (nI R) fw fv fg fr (nI cs.length) (nI m) fd ff fk a1 a2 a3 a4 a5 a6 a7 a8 a9 a10 := by
  intro rem
  induction rem with
  | nil =>
    intro k m R a4 a5 a10 hd hlen hnd hbit hmm h0 hR H
    have hlen' : k = cs.length := by simpa using hlen
    have hR' : R + 1 ≤ 5000000 := hR
    obtain ⟨n, hn⟩ := H (R + 1) (mr_u4 g m a4) (mr_u5 q g m a5) a10 (Nat.le_refl _) (fun _ _ => rfl) (fun n _ => mr_u4_at n rfl) (fun n _ => mr_u5_eq n)
    exact ⟨n + 1, pk_le 5000000 R (fun z => absurd z (by omega)) (fun _ => br_f (nI_pos (by omega)) (pk_eq k cs.length (fun _ => mr_noteWay hg hq hmm (nm_e (nm_r (nI_1 R) hn))) (fun z => absurd hlen' z)))⟩
  | cons c r ih =>
    intro k m R a4 a5 a10 hd hlen hnd hbit hmm h0 hR H
    rw [List.length_cons] at hlen
    have hk : k < cs.length := by omega
    have hd2 : cs.drop (k + 1) = r := by
      rw [List.drop_eq_getElem_cons hk] at hd
      exact (List.cons.inj hd).2
    have hc : cs.getD k 0 = c := by
      rw [List.drop_eq_getElem_cons hk] at hd
      rw [mr_getD hk]
      exact (List.cons.inj hd).1
    have hc20 : c < 20 := by
      rw [← hc, mr_getD hk]
      exact hm _ (List.getElem_mem hk)
    have hT : mr_T (c :: r).length = 3 + 2 * mr_T r.length := rfl
    rw [hT] at hR H
    have hnd' := List.nodup_cons.mp hnd
    have hb0 : m.testBit c = false := hbit c List.mem_cons_self
    have hbr : ∀ c' ∈ r, m.testBit c' = false := fun c' h => hbit c' (List.mem_cons_of_mem _ h)
    have hbr' : ∀ c' ∈ r, (m ||| 2 ^ c).testBit c' = false := fun c' h => mr_orb (hbr c' h) (fun e => hnd'.1 (e ▸ h))
    have hm1 : m ||| 2 ^ c < 2 ^ 20 := Nat.or_lt_two_pow hmm (Nat.pow_lt_pow_right (by decide) hc20)
    have ek : (nI k).toNatClampNeg = k := nI_clamp (by omega)
    have hdfs : mr_dfs (mr_E cf 20) (c :: r) m = (bif mr_std (mr_E cf 20) c (mr_op r) m then mr_dfs (mr_E cf 20) r m else []) ++ (bif mr_std (mr_E cf 20) c (mr_op r) (m ||| 2 ^ c) then mr_dfs (mr_E cf 20) r (m ||| 2 ^ c) else []) := rfl
    rw [hdfs] at H
    -- the third visit: both tried
    have S3 : ∀ (R3 : Nat) (b4 b5 b10 : Nat → Int32), R3 ≤ R + 2 + 2 * mr_T r.length → b10 k = nI 2 → (∀ j, j < k → b10 j = a10 j) →
        mr_add (fun _ => true) g ((bif mr_std (mr_E cf 20) c (mr_op r) m then mr_dfs (mr_E cf 20) r m else []) ++ (bif mr_std (mr_E cf 20) c (mr_op r) (m ||| 2 ^ c) then mr_dfs (mr_E cf 20) r (m ||| 2 ^ c) else [])) a4 b4 →
        mr_add (mr_q q) g ((bif mr_std (mr_E cf 20) c (mr_op r) m then mr_dfs (mr_E cf 20) r m else []) ++ (bif mr_std (mr_E cf 20) c (mr_op r) (m ||| 2 ^ c) then mr_dfs (mr_E cf 20) r (m ||| 2 ^ c) else [])) a5 b5 →
        ∃ n, wX_fillGroup_65 post (nI g) (mr_dec q) n (nI k) (nI R3) fw fv fg fr (nI cs.length) (nI (m ||| 2 ^ c)) fd ff fk a1 a2 a3 b4 b5 a6 a7 a8 a9 b10 := by
      intro R3 b4 b5 b10 h1 h2 h3 h4 h5
      obtain ⟨n, hn⟩ := H (R3 + 1) b4 b5 b10 (by omega) h3 h4 h5
      refine ⟨n + 1, pk_le 5000000 R3 (fun z => absurd z (by omega)) (fun _ => br_f (nI_pos (by omega)) (pk_eq k cs.length (fun z => absurd z (by omega)) (fun _ => ?_)))⟩
      rw [ek, h2, hcs k hk, hc]
      refine ⟨pk_in k 21 (by omega), pk_eq 2 2 (fun _ => ⟨pk_in k 20 (by omega), ?_⟩) (fun z => absurd rfl z)⟩
      rw [mr_shl c (by omega), mr_andn, mr_clr2 hb0]
      exact nm_e (nm_e (nm_r (nI_1 R3) hn))
    -- the second visit
    have S2 : ∀ (R2 : Nat) (b4 b5 b10 : Nat → Int32), R2 ≤ R + 1 + mr_T r.length → b10 k = nI 1 → (∀ j, j < k → b10 j = a10 j) →
        mr_add (fun _ => true) g (bif mr_std (mr_E cf 20) c (mr_op r) m then mr_dfs (mr_E cf 20) r m else []) a4 b4 → mr_add (mr_q q) g (bif mr_std (mr_E cf 20) c (mr_op r) m then mr_dfs (mr_E cf 20) r m else []) a5 b5 →
        ∃ n, wX_fillGroup_65 post (nI g) (mr_dec q) n (nI k) (nI R2) fw fv fg fr (nI cs.length) (nI m) fd ff fk a1 a2 a3 b4 b5 a6 a7 a8 a9 b10 := by
      intro R2 b4 b5 b10 h1 h2 h3 h4 h5
      refine mr_fstep (s := 1) (m' := m ||| 2 ^ c) hC hN hcs hl hm hk hc (by omega) h2 (Or.inr ⟨rfl, rfl⟩) (fun e => ?_) (fun e => ?_)
      · rw [hd2] at e
        refine ih (k + 1) (m ||| 2 ^ c) (R2 + 1) b4 b5 _ hd2 (by omega) hnd'.2 hbr' hm1 (fun _ => by rw [pk_us]; rfl) (by omega) (fun R' c4 c5 c10 g1 g2 g3 g4 => ?_)
        rw [pk_m1]
        refine S3 R' c4 c5 c10 (by omega) (by rw [g2 k (by omega), pk_un (by omega), pk_us]) (fun j hj => by rw [g2 j (by omega), pk_un (by omega), pk_un (by omega), h3 j hj]) ?_ ?_
        · rw [e]
          exact mr_add_app h4 g3
        · rw [e]
          exact mr_add_app h5 g4
      · rw [hd2] at e
        refine S3 (R2 + 1) b4 b5 _ (by omega) (by rw [pk_us]) (fun j hj => by rw [pk_un (by omega), h3 j hj]) ?_ ?_
        · rw [e]
          exact mr_add_app h4 mr_add_0
        · rw [e]
          exact mr_add_app h5 mr_add_0
    refine mr_fstep (s := 0) (m' := m) hC hN hcs hl hm hk hc (by omega) (h0 (by simp)) (Or.inl ⟨rfl, (mr_clr hb0).symm⟩) (fun e => ?_) (fun e => ?_)
    · rw [hd2] at e
      refine ih (k + 1) m (R + 1) a4 a5 _ hd2 (by omega) hnd'.2 hbr hmm (fun _ => by rw [pk_us]; rfl) (by omega) (fun R' c4 c5 c10 g1 g2 g3 g4 => ?_)
      rw [pk_m1]
      refine S2 R' c4 c5 c10 (by omega) (by rw [g2 k (by omega), pk_un (by omega), pk_us]) (fun j hj => by rw [g2 j (by omega), pk_un (by omega), pk_un (by omega)]) ?_ ?_
      · rw [e]
        exact g3
      · rw [e]
        exact g4
    · rw [hd2] at e
      refine S2 (R + 1) a4 a5 _ (by omega) (by rw [pk_us]) (fun j hj => by rw [pk_un (by omega)]) ?_ ?_
      · rw [e]
        exact mr_add_0
      · rw [e]
        exact mr_add_0
theorem mr_fillGroup {post : St2 → Prop} {cf : Nat → Nat} {s g q : Nat} (hC : mr_C cf a1) (hN : mr_N a2) (hg : g < 20) (hq : q ≤ 20) (hs : s < 2 ^ 20) (h3 : a3 g = nI s)
    (H : ∀ (ye ym : Int32) (b4 b5 b9 b10 : Nat → Int32), (∀ n, n ≤ 20 → b4 (21 * g + n) = nI (mr_ct (fun _ => true) (mr_dfs (mr_E cf 20) (mr_cs s 20) 0) n)) → (∀ n, n ≤ 20 → b5 (21 * g + n) = nI (mr_ct (mr_q q) (mr_dfs (mr_E cf 20) (mr_cs s 20) 0) n)) → post (fw, fv, fg, fr, ye, ym, fd, ff, fk, a1, a2, a3, b4, b5, a6, a7, a8, b9, b10)) :
    wpX_fillGroup post (fw, fv, fg, fr, fe, fm, fd, ff, fk, a1, a2, a3, a4, a5, a6, a7, a8, a9, a10) (nI g) (mr_dec q) := by
  unfold wpX_fillGroup
  dsimp only
  rw [nI_clamp (show g < 2 ^ 31 by omega), h3]
  refine ⟨pk_in g 20 hg, mr_listCells hs (fun a9' h9 => ?_)⟩
  have hl := mr_cs_len s 20
  have hT : mr_T (mr_cs s 20).length ≤ 4194301 := mr_T_le _ (by omega)
  dsimp only
  refine pk_loop (σ := (Nat → Int32) × (Nat → Int32)) (fun n i t => wX_fillGroup_12 post (nI g) (mr_dec q) fw fv fg fr (nI (mr_cs s 20).length) fm fd ff fk n (nI i) a1 a2 a3 t.1 t.2 a6 a7 a8 a9' a10) (fun i t => ∀ n, n < i → t.1 (21 * g + n) = 0 ∧ t.2 (21 * g + n) = 0) 21 0 (a4, a5) (by omega) (fun n hn => absurd hn (by omega)) ?_ ?_
  · intro n t ht
    obtain ⟨b4, b5⟩ := t
    dsimp only at ht ⊢
    refine pk_le 21 21 (fun _ => nm_e ?_) (fun z => absurd z (by omega))
    refine mr_fdfs hC hN h9 hl (mr_cs_mem s 20) hg hq (mr_cs s 20) 0 0 0 b4 b5 _ rfl (by omega) (mr_cs_nd s 20) (fun c _ => Nat.zero_testBit c) (by decide) (fun _ => by rw [pk_us]; rfl) (by omega) (fun R' c4 c5 c10 _ _ g3 g4 => ⟨1, ?_⟩)
    have P := H (nI (mr_cs s 20).length) (nI 0) c4 c5 a9' c10 (fun n hn => by rw [g3 n hn, (ht n (by omega)).1, Int32.zero_add]) (fun n hn => by rw [g4 n hn, (ht n (by omega)).2, Int32.zero_add])
    exact br_c (fun _ => P) (fun _ => br_t (by decide) P)
  · intro n i t hi ht hw
    refine pk_le 21 i (fun z => absurd z (by omega)) (fun _ => ?_)
    rw [mr_21, nI_clamp (show 21 * g + i < 2 ^ 31 by omega)]
    refine ⟨pk_in (21 * g + i) 420 (by omega), nm_e ⟨pk_in (21 * g + i) 420 (by omega), nm_e (nm_r (nI_1 i) (hw (upd t.1 (21 * g + i) 0, upd t.2 (21 * g + i) 0) (fun n hn => ?_)))⟩⟩
    show upd t.1 (21 * g + i) 0 (21 * g + n) = 0 ∧ upd t.2 (21 * g + i) 0 (21 * g + n) = 0
    by_cases e : n = i
    · subst e
      exact ⟨pk_us, pk_us⟩
    · rw [pk_un (by omega), pk_un (by omega)]
      exact ht n (by omega)
end
end
section
/-! sums of ways -/
def mr_ch (n k : Nat) : Nat := ([[1, 0, 0, 0, 0, 0, 0, 0, 0, 0, 0, 0, 0, 0, 0, 0, 0, 0, 0, 0, 0], [1, 1, 0, 0, 0, 0, 0, 0, 0, 0, 0, 0, 0, 0, 0, 0, 0, 0, 0, 0, 0], [1, 2, 1, 0, 0, 0, 0, 0, 0, 0, 0, 0, 0, 0, 0, 0, 0, 0, 0, 0, 0], [1, 3, 3, 1, 0, 0, 0, 0, 0, 0, 0, 0, 0, 0, 0, 0, 0, 0, 0, 0, 0], [1, 4, 6, 4, 1, 0, 0, 0, 0, 0, 0, 0, 0, 0, 0, 0, 0, 0, 0, 0, 0], [1, 5, 10, 10, 5, 1, 0, 0, 0, 0, 0, 0, 0, 0, 0, 0, 0, 0, 0, 0, 0], [1, 6, 15, 20, 15, 6, 1, 0, 0, 0, 0, 0, 0, 0, 0, 0, 0, 0, 0, 0, 0], [1, 7, 21, 35, 35, 21, 7, 1, 0, 0, 0, 0, 0, 0, 0, 0, 0, 0, 0, 0, 0], [1, 8, 28, 56, 70, 56, 28, 8, 1, 0, 0, 0, 0, 0, 0, 0, 0, 0, 0, 0, 0], [1, 9, 36, 84, 126, 126, 84, 36, 9, 1, 0, 0, 0, 0, 0, 0, 0, 0, 0, 0, 0], [1, 10, 45, 120, 210, 252, 210, 120, 45, 10, 1, 0, 0, 0, 0, 0, 0, 0, 0, 0, 0], [1, 11, 55, 165, 330, 462, 462, 330, 165, 55, 11, 1, 0, 0, 0, 0, 0, 0, 0, 0, 0], [1, 12, 66, 220, 495, 792, 924, 792, 495, 220, 66, 12, 1, 0, 0, 0, 0, 0, 0, 0, 0], [1, 13, 78, 286, 715, 1287, 1716, 1716, 1287, 715, 286, 78, 13, 1, 0, 0, 0, 0, 0, 0, 0], [1, 14, 91, 364, 1001, 2002, 3003, 3432, 3003, 2002, 1001, 364, 91, 14, 1, 0, 0, 0, 0, 0, 0], [1, 15, 105, 455, 1365, 3003, 5005, 6435, 6435, 5005, 3003, 1365, 455, 105, 15, 1, 0, 0, 0, 0, 0], [1, 16, 120, 560, 1820, 4368, 8008, 11440, 12870, 11440, 8008, 4368, 1820, 560, 120, 16, 1, 0, 0, 0, 0], [1, 17, 136, 680, 2380, 6188, 12376, 19448, 24310, 24310, 19448, 12376, 6188, 2380, 680, 136, 17, 1, 0, 0, 0], [1, 18, 153, 816, 3060, 8568, 18564, 31824, 43758, 48620, 43758, 31824, 18564, 8568, 3060, 816, 153, 18, 1, 0, 0], [1, 19, 171, 969, 3876, 11628, 27132, 50388, 75582, 92378, 92378, 75582, 50388, 27132, 11628, 3876, 969, 171, 19, 1, 0], [1, 20, 190, 1140, 4845, 15504, 38760, 77520, 125970, 167960, 184756, 167960, 125970, 77520, 38760, 15504, 4845, 1140, 190, 20, 1]].getD n []).getD k 0
def mr_K (a8 : Nat → Int32) : Prop := ∀ n k, n ≤ 20 → k ≤ 20 → a8 (21 * n + k) = nI (mr_ch n k)
/-- an array of 21 holds a table -/
def mr_A (s : Nat → Nat) (a : Nat → Int32) : Prop := ∀ j, j < 21 → a j = nI (s j)
def mr_cj (s w : Nat → Nat) (j : Nat) : Nat → Nat
  | 0 => 0
  | n + 1 => mr_cj s w j n + (bif Nat.ble n j then s n * w (j - n) else 0)
def mr_cr (s : Nat → Nat) (size fx j : Nat) : Nat → Nat
  | 0 => 0
  | n + 1 => mr_cr s size fx j n + (bif Nat.ble (n + fx) j && Nat.ble j (n + fx + size) then s n * mr_ch size (j - (n + fx)) else 0)
theorem mr_cj_in {s w : Nat → Nat} {j n : Nat} (h : n ≤ j) : mr_cj s w j (n + 1) = mr_cj s w j n + s n * w (j - n) := by
  rw [mr_cj, mr_ble_t h]
  rfl
theorem mr_cj_out {s w : Nat → Nat} {j n : Nat} (h : j < n) : mr_cj s w j (n + 1) = mr_cj s w j n := by
  rw [mr_cj, mr_ble_f h]
  rfl
theorem mr_cr_in {s : Nat → Nat} {size fx j n : Nat} (h : n + fx ≤ j) (h2 : j ≤ n + fx + size) : mr_cr s size fx j (n + 1) = mr_cr s size fx j n + s n * mr_ch size (j - (n + fx)) := by
  rw [mr_cr, mr_ble_t h, mr_ble_t h2]
  rfl
theorem mr_cr_out {s : Nat → Nat} {size fx j n : Nat} (h : ¬ (n + fx ≤ j ∧ j ≤ n + fx + size)) : mr_cr s size fx j (n + 1) = mr_cr s size fx j n := by
  rw [mr_cr]
  by_cases h1 : n + fx ≤ j
  · rw [mr_ble_f (show n + fx + size < j by omega), Bool.and_false]
    rfl
  · rw [mr_ble_f (show j < n + fx by omega), Bool.false_and]
    rfl
section
variable {fw fv fg fr fe fm fd ff fk : Int32} {a1 a2 a3 a4 a5 a6 a7 a8 a9 a10 : Nat → Int32}
theorem mr_jw116 {post : St2 → Prop} (H : ∀ b6, (∀ j, j < 21 → b6 j = a7 j) → post (fw, fv, fg, fr, fe, fm, fd, ff, fk, a1, a2, a3, a4, a5, b6, a7, a8, a9, a10)) : ∃ n, wX_joinWays_116 post fw fv fg fr fe fm fd ff fk n 0 a1 a2 a3 a4 a5 a6 a7 a8 a9 a10 := by
  refine pk_loop (fun n i b6 => wX_joinWays_116 post fw fv fg fr fe fm fd ff fk n (nI i) a1 a2 a3 a4 a5 b6 a7 a8 a9 a10) (fun i b6 => ∀ j, j < i → b6 j = a7 j) 21 0 a6 (by omega) (fun j hj => absurd hj (by omega)) ?_ ?_
  · intro n b6 h
    exact pk_le 21 21 (fun _ => H b6 h) (fun z => absurd z (by omega))
  · intro n i b6 hi h hw
    refine pk_le 21 i (fun z => absurd z (by omega)) (fun _ => ?_)
    rw [nI_clamp (show i < 2 ^ 31 by omega)]
    refine ⟨pk_in i 21 hi, pk_in i 21 hi, nm_e (nm_r (nI_1 i) (hw _ (fun j hj => ?_)))⟩
    by_cases e : j = i
    · rw [e, pk_us]
    · rw [pk_un e]
      exact h j (by omega)
theorem mr_jr116 {post : St2 → Prop} (H : ∀ b6, (∀ j, j < 21 → b6 j = a7 j) → post (fw, fv, fg, fr, fe, fm, fd, ff, fk, a1, a2, a3, a4, a5, b6, a7, a8, a9, a10)) : ∃ n, wX_joinRest_116 post fw fv fg fr fe fm fd ff fk n 0 a1 a2 a3 a4 a5 a6 a7 a8 a9 a10 := by
  refine pk_loop (fun n i b6 => wX_joinRest_116 post fw fv fg fr fe fm fd ff fk n (nI i) a1 a2 a3 a4 a5 b6 a7 a8 a9 a10) (fun i b6 => ∀ j, j < i → b6 j = a7 j) 21 0 a6 (by omega) (fun j hj => absurd hj (by omega)) ?_ ?_
  · intro n b6 h
    exact pk_le 21 21 (fun _ => H b6 h) (fun z => absurd z (by omega))
  · intro n i b6 hi h hw
    refine pk_le 21 i (fun z => absurd z (by omega)) (fun _ => ?_)
    rw [nI_clamp (show i < 2 ^ 31 by omega)]
    refine ⟨pk_in i 21 hi, pk_in i 21 hi, nm_e (nm_r (nI_1 i) (hw _ (fun j hj => ?_)))⟩
    by_cases e : j = i
    · rw [e, pk_us]
    · rw [pk_un e]
      exact h j (by omega)
theorem mr_jw32 {post : St2 → Prop} {J : Int32 → (Nat → Int32) → (Nat → Int32) → (Nat → Int32) → (Nat → Int32) → (Nat → Int32) → (Nat → Int32) → (Nat → Int32) → (Nat → Int32) → (Nat → Int32) → (Nat → Int32) → Prop} {g n : Nat} {wb : Bool} {s w : Nat → Nat} (hg : g < 20) (hn : n < 21) (h6 : mr_A s a6) (hw4 : ∀ m, m ≤ 20 → (bif wb then a5 else a4) (21 * g + m) = nI (w m)) (h7 : mr_A (fun j => mr_cj s w j n) a7)
    (H : ∀ b7, mr_A (fun j => mr_cj s w j (n + 1)) b7 → J (nI (n + 1)) a1 a2 a3 a4 a5 a6 b7 a8 a9 a10) : ∃ f, wX_joinWays_32 post J (nI g) (mr_b wb) (nI n) fw fv fg fr fe fm fd ff fk f 0 a1 a2 a3 a4 a5 a6 a7 a8 a9 a10 := by
  refine pk_loop (fun f m b7 => wX_joinWays_32 post J (nI g) (mr_b wb) (nI n) fw fv fg fr fe fm fd ff fk f (nI m) a1 a2 a3 a4 a5 a6 b7 a8 a9 a10) (fun m b7 => ∀ j, j < 21 → b7 j = nI (mr_cj s w j n + (if n ≤ j ∧ j < n + m then s n * w (j - n) else 0))) (21 - n) 0 a7 (by omega) (fun j hj => by rw [h7 j hj, if_neg (by omega), Nat.add_zero]) ?_ ?_
  · intro f b7 h
    have P := H b7 (fun j hj => by
      show b7 j = nI (mr_cj s w j (n + 1))
      rw [h j hj]
      by_cases e : n ≤ j
      · rw [if_pos ⟨e, by omega⟩, mr_cj_in e]
      · rw [if_neg (by omega), mr_cj_out (by omega), Nat.add_zero])
    refine pk_le 21 (21 - n + n) (fun _ => nm_r (nI_1 n) P) (fun z => absurd z (by omega)) (hy := nI_add _ _)
  · intro f m b7 hm h hw
    have stp : ∀ (z : Nat), z = w m → wX_joinWays_72 post J (wX_joinWays_32 post J (nI g) (mr_b wb) (nI n) fw fv fg fr fe fm fd ff fk f) (nI g) (mr_b wb) (nI n) (nI m) (nI z) fw fv fg fr fe fm fd ff fk a1 a2 a3 a4 a5 a6 b7 a8 a9 a10 := by
      intro z hz
      unfold wX_joinWays_72
      rw [nI_add, nI_clamp (show n + m < 2 ^ 31 by omega), nI_clamp (show n < 2 ^ 31 by omega), h6 n hn, h (n + m) (by omega), pk_mul, nI_add]
      refine ⟨pk_in (n + m) 21 (by omega), pk_in n 21 hn, pk_in (n + m) 21 (by omega), nm_e (nm_r (nI_1 m) (hw _ (fun j hj => ?_)))⟩
      by_cases e : j = n + m
      · subst e
        rw [pk_us, if_neg (by omega), if_pos (by omega), hz, show n + m - n = m by omega, Nat.add_zero]
      · rw [pk_un e, h j hj]
        by_cases e2 : n ≤ j ∧ j < n + m
        · rw [if_pos e2, if_pos (by omega)]
        · rw [if_neg e2, if_neg (by omega)]
    refine pk_le 21 (m + n) (fun z => absurd z (by omega)) (fun _ => ?_) (hy := nI_add _ _)
    have h4 := hw4 m (by omega)
    rw [mr_21, nI_clamp (show 21 * g + m < 2 ^ 31 by omega)]
    refine mr_bz (fun e => ⟨pk_in (21 * g + m) 420 (by omega), ?_⟩) (fun e => ⟨pk_in (21 * g + m) 420 (by omega), ?_⟩)
    · subst e
      rw [cond_false] at h4
      rw [h4]
      exact stp _ rfl
    · subst e
      rw [cond_true] at h4
      rw [h4]
      exact stp _ rfl
theorem mr_joinWays {post : St2 → Prop} {g : Nat} {wb : Bool} {s w : Nat → Nat} (hg : g < 20) (h6 : mr_A s a6) (hw4 : ∀ m, m ≤ 20 → (bif wb then a5 else a4) (21 * g + m) = nI (w m))
    (H : ∀ b6 b7, mr_A (fun j => mr_cj s w j 21) b6 → post (fw, fv, fg, fr, fe, fm, fd, ff, fk, a1, a2, a3, a4, a5, b6, b7, a8, a9, a10)) : wpX_joinWays post (fw, fv, fg, fr, fe, fm, fd, ff, fk, a1, a2, a3, a4, a5, a6, a7, a8, a9, a10) (nI g) (mr_b wb) := by
  show ∃ f, wX_joinWays_2 post (nI g) (mr_b wb) fw fv fg fr fe fm fd ff fk f 0 a1 a2 a3 a4 a5 a6 a7 a8 a9 a10
  refine pk_loop (fun n i b7 => wX_joinWays_2 post (nI g) (mr_b wb) fw fv fg fr fe fm fd ff fk n (nI i) a1 a2 a3 a4 a5 a6 b7 a8 a9 a10) (fun i b7 => ∀ j, j < i → b7 j = 0) 21 0 a7 (by omega) (fun j hj => absurd hj (by omega)) ?_ ?_
  · intro n b7 h
    refine pk_le 21 21 (fun _ => ?_) (fun z => absurd z (by omega))
    refine pk_loop (fun n i c7 => wX_joinWays_23 post (nI g) (mr_b wb) fw fv fg fr fe fm fd ff fk n (nI i) a1 a2 a3 a4 a5 a6 c7 a8 a9 a10) (fun i c7 => mr_A (fun j => mr_cj s w j i) c7) 21 0 b7 (by omega) (fun j hj => h j hj) ?_ ?_
    · intro n c7 hc
      exact pk_le 21 21 (fun _ => mr_jw116 (fun b6 hb => H b6 c7 (fun j hj => by rw [hb j hj]; exact hc j hj))) (fun z => absurd z (by omega))
    · intro n i c7 hi hc hw
      exact pk_le 21 i (fun z => absurd z (by omega)) (fun _ => mr_jw32 hg hi h6 hw4 hc (fun d7 hd => hw d7 hd))
  · intro n i b7 hi h hw
    refine pk_le 21 i (fun z => absurd z (by omega)) (fun _ => ?_)
    rw [nI_clamp (show i < 2 ^ 31 by omega)]
    refine ⟨pk_in i 21 hi, nm_e (nm_r (nI_1 i) (hw _ (fun j hj => ?_)))⟩
    by_cases e : j = i
    · rw [e, pk_us]
    · rw [pk_un e]
      exact h j (by omega)
theorem mr_jr43 {post : St2 → Prop} {J : Int32 → (Nat → Int32) → (Nat → Int32) → (Nat → Int32) → (Nat → Int32) → (Nat → Int32) → (Nat → Int32) → (Nat → Int32) → (Nat → Int32) → (Nat → Int32) → (Nat → Int32) → Prop} {size fx n : Nat} {s : Nat → Nat} (hsz : size ≤ 20) (hfx : fx ≤ 1) (hn : n < 21) (h6 : mr_A s a6) (h8 : mr_K a8) (h7 : mr_A (fun j => mr_cr s size fx j n) a7)
    (H : ∀ b7, mr_A (fun j => mr_cr s size fx j (n + 1)) b7 → J (nI (n + 1)) a1 a2 a3 a4 a5 a6 b7 a8 a9 a10) : ∃ f, wX_joinRest_43 post J (nI fx) (nI size) (nI n) fw fv fg fr fe fm fd ff fk f 0 a1 a2 a3 a4 a5 a6 a7 a8 a9 a10 := by
  refine pk_loop (fun f m b7 => wX_joinRest_43 post J (nI fx) (nI size) (nI n) fw fv fg fr fe fm fd ff fk f (nI m) a1 a2 a3 a4 a5 a6 b7 a8 a9 a10) (fun m b7 => ∀ j, j < 21 → b7 j = nI (mr_cr s size fx j n + (if n + fx ≤ j ∧ j < n + fx + m then s n * mr_ch size (j - (n + fx)) else 0))) (min (size + 1) (21 - (n + fx))) 0 a7 (by omega) (fun j hj => by rw [h7 j hj, if_neg (by omega), Nat.add_zero]) ?_ ?_
  · intro f b7 h
    have P := H b7 (fun j hj => by
      show b7 j = nI (mr_cr s size fx j (n + 1))
      rw [h j hj]
      by_cases e : n + fx ≤ j ∧ j ≤ n + fx + size
      · rw [if_pos (by omega), mr_cr_in e.1 e.2]
      · rw [if_neg (by omega), mr_cr_out e, Nat.add_zero])
    generalize hm : min (size + 1) (21 - (n + fx)) = m
    refine pk_lt size m (fun _ => nm_r (nI_1 n) P) (fun z => ?_)
    rw [nI_add, nI_add]
    exact pk_le 21 (m + n + fx) (fun _ => nm_r (nI_1 n) P) (fun z2 => absurd z2 (by omega))
  · intro f m b7 hm h hw
    have h8' := h8 size m hsz (by omega)
    refine pk_lt size m (fun z => absurd z (by omega)) (fun _ => ?_)
    rw [nI_add, nI_add]
    refine pk_le 21 (m + n + fx) (fun z => absurd z (by omega)) (fun _ => ?_)
    rw [nI_add, nI_add, mr_21, nI_clamp (show n + m + fx < 2 ^ 31 by omega), nI_clamp (show n < 2 ^ 31 by omega), nI_clamp (show 21 * size + m < 2 ^ 31 by omega), h6 n hn, h8', h (n + m + fx) (by omega), pk_mul, nI_add]
    refine ⟨pk_in (n + m + fx) 21 (by omega), pk_in n 21 hn, pk_in (21 * size + m) 441 (by omega), pk_in (n + m + fx) 21 (by omega), nm_e (nm_r (nI_1 m) (hw _ (fun j hj => ?_)))⟩
    by_cases e : j = n + m + fx
    · subst e
      rw [pk_us, if_neg (by omega), if_pos (by omega), show n + m + fx - (n + fx) = m by omega, Nat.add_zero]
    · rw [pk_un e, h j hj]
      by_cases e2 : n + fx ≤ j ∧ j < n + fx + m
      · rw [if_pos e2, if_pos (by omega)]
      · rw [if_neg e2, if_neg (by omega)]
theorem mr_joinRest {post : St2 → Prop} {rs fx : Nat} {s : Nat → Nat} (hrs : rs < 2 ^ 20) (hfx : fx ≤ 1) (hpos : fx ≤ mr_bits rs) (h6 : mr_A s a6) (h8 : mr_K a8)
    (H : ∀ b6 b7, mr_A (fun j => mr_cr s (mr_bits rs - fx) fx j 21) b6 → post (fw, fv, fg, (nI rs), fe, fm, fd, ff, fk, a1, a2, a3, a4, a5, b6, b7, a8, a9, a10)) : wpX_joinRest post (fw, fv, fg, (nI rs), fe, fm, fd, ff, fk, a1, a2, a3, a4, a5, a6, a7, a8, a9, a10) (nI fx) := by
  unfold wpX_joinRest
  dsimp only
  have hb := mr_bits_le rs
  refine mr_bitsOf (Nat.lt_trans hrs (by decide)) (nm_r (pk_sub hpos) ?_)
  refine pk_loop (fun n i b7 => wX_joinRest_13 post (nI fx) (nI (mr_bits rs - fx)) fw fv fg (nI rs) fe fm fd ff fk n (nI i) a1 a2 a3 a4 a5 a6 b7 a8 a9 a10) (fun i b7 => ∀ j, j < i → b7 j = 0) 21 0 a7 (by omega) (fun j hj => absurd hj (by omega)) ?_ ?_
  · intro n b7 h
    refine pk_le 21 21 (fun _ => ?_) (fun z => absurd z (by omega))
    refine pk_loop (fun n i c7 => wX_joinRest_34 post (nI fx) (nI (mr_bits rs - fx)) fw fv fg (nI rs) fe fm fd ff fk n (nI i) a1 a2 a3 a4 a5 a6 c7 a8 a9 a10) (fun i c7 => mr_A (fun j => mr_cr s (mr_bits rs - fx) fx j i) c7) 21 0 b7 (by omega) (fun j hj => h j hj) ?_ ?_
    · intro n c7 hc
      exact pk_le 21 21 (fun _ => mr_jr116 (fun b6 hb => H b6 c7 (fun j hj => by rw [hb j hj]; exact hc j hj))) (fun z => absurd z (by omega))
    · intro n i c7 hi hc hw
      exact pk_le 21 i (fun z => absurd z (by omega)) (fun _ => mr_jr43 (by omega) hfx hi h6 h8 hc (fun d7 hd => hw d7 hd))
  · intro n i b7 hi h hw
    refine pk_le 21 i (fun z => absurd z (by omega)) (fun _ => ?_)
    rw [nI_clamp (show i < 2 ^ 31 by omega)]
    refine ⟨pk_in i 21 hi, nm_e (nm_r (nI_1 i) (hw _ (fun j hj => ?_)))⟩
    by_cases e : j = i
    · rw [e, pk_us]
    · rw [pk_un e]
      exact h j (by omega)
end
end
section
/-! all groups together -/
def mr_f3 {α : Type} : List (Nat × Nat × Nat) → (List (Nat × Nat × Nat) → α) → α
  | [], k => k []
  | p :: r, k => mr_fn p.1 (fun a => mr_fn p.2.1 (fun b => mr_fn p.2.2 (fun c => mr_f3 r (fun t => k ((a, b, c) :: t)))))
theorem mr_f3_eq {α : Type} : ∀ (l : List (Nat × Nat × Nat)) (k : List (Nat × Nat × Nat) → α), mr_f3 l k = k l := by
  intro l
  induction l with
  | nil => intro k; rfl
  | cons p r ih => intro k; simp only [mr_f3, mr_fn_eq, ih]
def mr_g (l : List Nat) (n : Nat) : Nat := l.getD n 0
def mr_wp (q x : Nat) : Nat → Bool := bif mr_q q x then mr_q q else fun _ => true
def mr_stp (L : List (Nat × Nat × Nat)) (q : Nat) (s : List Nat) (x : Nat) : List Nat :=
  mr_fl (mr_dfs L (mr_cs x 20) 0) (fun lv => mr_fl (mr_tab (fun n => mr_ct (mr_wp q x) lv n)) (fun w => mr_fl (mr_tab (fun j => mr_cj (mr_g s) (mr_g w) j 21)) (fun t => t)))
def mr_rst (q rs : Nat) (s : List Nat) : List Nat := mr_fn (bif mr_q q rs then 1 else 0) (fun fx => mr_fn (mr_bits rs - fx) (fun size => mr_fl (mr_tab (fun j => mr_cr (mr_g s) size fx j 21)) (fun t => t)))
def mr_s0 (b : Bool) : List Nat := mr_tab (fun j => bif Nat.beq j 0 && b then 1 else 0)
def mr_all (cf : Nat → Nat) (q : Nat) : List Nat := mr_f3 (mr_E cf 20) (fun L => mr_fn (mr_cov cf 20) (fun cv => mr_fl (mr_gs L cv) (fun gs => mr_rst q (mr_dn cv (mr_edge L cv)) (gs.foldl (mr_stp L q) (mr_s0 (mr_ecg L cv))))))
theorem mr_all_eq (cf : Nat → Nat) (q : Nat) : mr_all cf q = mr_rst q (mr_dn (mr_cov cf 20) (mr_edge (mr_E cf 20) (mr_cov cf 20))) ((mr_gs (mr_E cf 20) (mr_cov cf 20)).foldl (mr_stp (mr_E cf 20) q) (mr_s0 (mr_ecg (mr_E cf 20) (mr_cov cf 20)))) := by
  unfold mr_all
  rw [mr_f3_eq, mr_fn_eq, mr_fl_eq]
theorem mr_stp_eq (L : List (Nat × Nat × Nat)) (q : Nat) (s : List Nat) (x : Nat) {j : Nat} (hj : j < 21) : mr_g (mr_stp L q s x) j = mr_cj (mr_g s) (mr_g (mr_tab (fun n => mr_ct (mr_wp q x) (mr_dfs L (mr_cs x 20) 0) n))) j 21 := by
  unfold mr_stp
  rw [mr_fl_eq, mr_fl_eq, mr_fl_eq]
  exact mr_tab_get _ hj
theorem mr_rst_eq (q rs : Nat) (s : List Nat) {j : Nat} (hj : j < 21) : mr_g (mr_rst q rs s) j = mr_cr (mr_g s) (mr_bits rs - (bif mr_q q rs then 1 else 0)) (bif mr_q q rs then 1 else 0) j 21 := by
  unfold mr_rst
  rw [mr_fn_eq, mr_fn_eq, mr_fl_eq]
  exact mr_tab_get _ hj
theorem mr_s0_eq (b : Bool) {j : Nat} (hj : j < 21) : mr_g (mr_s0 b) j = (bif Nat.beq j 0 && b then 1 else 0) := mr_tab_get _ hj
/-- the total: 0 none -/
def mr_cw (wt : Nat) (s : Nat → Nat) : Nat → Nat
  | 0 => 0
  | n + 1 => bif Nat.beq wt 0 || Nat.beq wt (n + 1) then mr_cw wt s n + s n else mr_cw wt s n
/-- how many layouts (q = 0), or those with a mine in the cell q - 1 -/
def mr_lay (cf : Nat → Nat) (wt q : Nat) : Nat := mr_cw wt (mr_g (mr_all cf q)) 21
section
variable {fw fv fg fr fe fm fd ff fk : Int32} {a1 a2 a3 a4 a5 a6 a7 a8 a9 a10 : Nat → Int32}
theorem mr_ca117 {post : St2 → Prop} {rs fx : Nat} {s : Nat → Nat} (hrs : rs < 2 ^ 20) (hfx : fx ≤ 1) (hpos : fx ≤ mr_bits rs) (h6 : mr_A s a6) (h8 : mr_K a8)
    (H : ∀ b6 b7, mr_A (fun j => mr_cr s (mr_bits rs - fx) fx j 21) b6 → post (fw, fv, fg, (nI rs), fe, fm, fd, ff, fk, a1, a2, a3, a4, a5, b6, b7, a8, a9, a10)) : wX_countAll_117 post (nI fx) fw fv fg (nI rs) fe fm fd ff fk a1 a2 a3 a4 a5 a6 a7 a8 a9 a10 := by
  unfold wX_countAll_117
  exact mr_joinRest hrs hfx hpos h6 h8 (fun b6 b7 hb => H b6 b7 hb)
theorem mr_ca85 {post : St2 → Prop} {J : Int32 → Int32 → Int32 → Int32 → Int32 → Int32 → Int32 → Int32 → Int32 → Int32 → (Nat → Int32) → (Nat → Int32) → (Nat → Int32) → (Nat → Int32) → (Nat → Int32) → (Nat → Int32) → (Nat → Int32) → (Nat → Int32) → (Nat → Int32) → (Nat → Int32) → Prop} {x1 : Int32} {g : Nat} {wb : Bool} {s w : Nat → Nat} (hg : g < 20) (h6 : mr_A s a6) (hw4 : ∀ m, m ≤ 20 → (bif wb then a5 else a4) (21 * g + m) = nI (w m))
    (H : ∀ b6 b7, mr_A (fun j => mr_cj s w j 21) b6 → J (nI (g + 1)) fw fv fg fr fe fm fd ff fk a1 a2 a3 a4 a5 b6 b7 a8 a9 a10) : wX_countAll_85 post J x1 (nI g) (mr_b wb) (nI g) fw fv fg fr fe fm fd ff fk a1 a2 a3 a4 a5 a6 a7 a8 a9 a10 := by
  unfold wX_countAll_85
  exact mr_joinWays hg h6 hw4 (fun b6 b7 hb => nm_r (nI_1 g) (H b6 b7 hb))
theorem mr_ca45 {post : St2 → Prop} {cf : Nat → Nat} {L : List (Nat × Nat × Nat)} {gs : List Nat} {rs q : Nat} {s0 : List Nat} (hL : L = mr_E cf 20) (hC : mr_C cf a1) (hN : mr_N a2) (h8 : mr_K a8) (hrs : rs < 2 ^ 20) (hq : q ≤ 20) (hgl : gs.length ≤ 20) (hgm : ∀ x ∈ gs, x < 2 ^ 20) (h3 : mr_H gs a3) (h6 : mr_A (mr_g s0) a6)
    (H : ∀ (ye ym : Int32) (b4 b5 b6 b7 b9 b10 : Nat → Int32), mr_A (mr_g (mr_rst q rs (gs.foldl (mr_stp L q) s0))) b6 → post (fw, fv, (nI gs.length), (nI rs), ye, ym, fd, ff, fk, a1, a2, a3, b4, b5, b6, b7, a8, b9, b10)) :
    ∃ n, wX_countAll_45 post (mr_dec q) n 0 fw fv (nI gs.length) (nI rs) fe fm fd ff fk a1 a2 a3 a4 a5 a6 a7 a8 a9 a10 := by
  subst hL
  refine pk_loop (σ := Int32 × Int32 × (Nat → Int32) × (Nat → Int32) × (Nat → Int32) × (Nat → Int32) × (Nat → Int32) × (Nat → Int32))
    (fun n i t => wX_countAll_45 post (mr_dec q) n (nI i) fw fv (nI gs.length) (nI rs) t.1 t.2.1 fd ff fk a1 a2 a3 t.2.2.1 t.2.2.2.1 t.2.2.2.2.1 t.2.2.2.2.2.1 a8 t.2.2.2.2.2.2.1 t.2.2.2.2.2.2.2)
    (fun i t => mr_A (mr_g ((gs.take i).foldl (mr_stp (mr_E cf 20) q) s0)) t.2.2.2.2.1) gs.length 0 (fe, fm, a4, a5, a6, a7, a9, a10) (by omega) h6 ?_ ?_
  · intro n t ht
    obtain ⟨ye, ym, b4, b5, b6, b7, b9, b10⟩ := t
    dsimp only at ht ⊢
    rw [List.take_length] at ht
    refine pk_le gs.length gs.length (fun _ => ?_) (fun z => absurd z (by omega))
    refine ek_if (mr_dec_m q (by omega)) (fun e => ?_) (fun e => ?_)
    · unfold wX_countAll_116
      have e1 : mr_q q rs = false := by subst e; rfl
      refine mr_ca117 (fx := 0) hrs (by omega) (by omega) ht h8 (fun c6 c7 hc => H ye ym b4 b5 c6 c7 b9 b10 (fun j hj => ?_))
      rw [hc j hj, mr_rst_eq q rs _ hj, e1]
      rfl
    · have e0 : Nat.beq q 0 = false := mr_beq_f e
      refine mr_hasX (mr_dec_p e) (Nat.lt_trans hrs (by decide)) (by omega) (mr_bz (fun e2 => ?_) (fun e2 => ?_))
      · unfold wX_countAll_116
        have e1 : mr_q q rs = false := by unfold mr_q; rw [e0, e2]; rfl
        refine mr_ca117 (fx := 0) hrs (by omega) (by omega) ht h8 (fun c6 c7 hc => H ye ym b4 b5 c6 c7 b9 b10 (fun j hj => ?_))
        rw [hc j hj, mr_rst_eq q rs _ hj, e1]
        rfl
      · have e1 : mr_q q rs = true := by unfold mr_q; rw [e0, e2]; rfl
        have hz : rs ≠ 0 := fun z => by
          rw [z, Nat.zero_testBit] at e2
          exact absurd e2 (by decide)
        refine mr_ca117 (fx := 1) hrs (by omega) (mr_bits_pos hz) ht h8 (fun c6 c7 hc => H ye ym b4 b5 c6 c7 b9 b10 (fun j hj => ?_))
        rw [hc j hj, mr_rst_eq q rs _ hj, e1]
        rfl
  · intro n i t hi ht hw
    obtain ⟨ye, ym, b4, b5, b6, b7, b9, b10⟩ := t
    dsimp only at ht ⊢
    have hx : gs[i] < 2 ^ 20 := hgm _ (List.getElem_mem hi)
    have h3i : a3 i = nI gs[i] := by rw [h3 i hi, mr_getD hi]
    have htk : (gs.take (i + 1)).foldl (mr_stp (mr_E cf 20) q) s0 = mr_stp (mr_E cf 20) q ((gs.take i).foldl (mr_stp (mr_E cf 20) q) s0) gs[i] := by
      rw [List.take_add_one, List.foldl_append, List.getElem?_eq_getElem hi]
      rfl
    refine pk_le gs.length i (fun z => absurd z (by omega)) (fun _ => ?_)
    refine mr_fillGroup hC hN (by omega) hq hx h3i (fun ze zm c4 c5 c9 c10 g4 g5 => ?_)
    dsimp only
    have fin : ∀ wb, mr_q q gs[i] = wb → wX_countAll_85 post (wX_countAll_45 post (mr_dec q) n) (mr_dec q) (nI i) (mr_b wb) (nI i) fw fv (nI gs.length) (nI rs) ze zm fd ff fk a1 a2 a3 c4 c5 b6 b7 a8 c9 c10 := by
      intro wb hwb
      refine mr_ca85 (w := mr_g (mr_tab (fun n => mr_ct (mr_wp q gs[i]) (mr_dfs (mr_E cf 20) (mr_cs gs[i] 20) 0) n))) (by omega) ht (fun m hm => ?_) (fun c6 c7 hc => ?_)
      · have e5 : mr_g (mr_tab (fun n => mr_ct (mr_wp q gs[i]) (mr_dfs (mr_E cf 20) (mr_cs gs[i] 20) 0) n)) m = mr_ct (mr_wp q gs[i]) (mr_dfs (mr_E cf 20) (mr_cs gs[i] 20) 0) m := mr_tab_get _ (by omega)
        rw [e5]
        unfold mr_wp
        rw [hwb]
        cases wb
        · exact g4 m hm
        · exact g5 m hm
      · exact hw (ze, zm, c4, c5, c6, c7, c9, c10) (fun j hj => by
          show c6 j = _
          rw [htk, mr_stp_eq _ _ _ _ hj]
          exact hc j hj)
    refine ek_if (mr_dec_m q (by omega)) (fun e => ?_) (fun e => ⟨pk_in i 20 (by omega), ?_⟩)
    · unfold wX_countAll_84
      exact fin false (by subst e; rfl)
    · have e0 : Nat.beq q 0 = false := mr_beq_f e
      rw [nI_clamp (show i < 2 ^ 31 by omega), h3i]
      refine mr_hasX (mr_dec_p e) (Nat.lt_trans hx (by decide)) (by omega) (mr_bz (fun e2 => ?_) (fun e2 => ?_))
      · unfold wX_countAll_84
        exact fin false (by unfold mr_q; rw [e0, e2]; rfl)
      · exact fin true (by unfold mr_q; rw [e0, e2]; rfl)
end
section
variable {fw fv fg fr fe fm fd ff fk : Int32} {a1 a2 a3 a4 a5 a6 a7 a8 a9 a10 : Nat → Int32}
theorem mr_countAll0 {post : St2 → Prop} {cf : Nat → Nat} {q : Nat} (hC : mr_C cf a1) (hN : mr_N a2) (h8 : mr_K a8) (hq : q ≤ 20)
    (H : ∀ (yg yr ye ym : Int32) (b3 b4 b5 b6 b7 b9 b10 : Nat → Int32), mr_A (mr_g (mr_all cf q)) b6 → post (fw, (nI (mr_cov cf 20)), yg, yr, ye, ym, fd, ff, fk, a1, a2, b3, b4, b5, b6, b7, a8, b9, b10)) :
    wpX_countAll post (fw, (nI (mr_cov cf 20)), fg, fr, fe, fm, fd, ff, fk, a1, a2, a3, a4, a5, a6, a7, a8, a9, a10) (mr_dec q) := by
  unfold wpX_countAll
  dsimp only
  refine mr_findGroups hC hN (fun b3 h3 => ?_)
  dsimp only
  have hrs : mr_dn (mr_cov cf 20) (mr_edge (mr_E cf 20) (mr_cov cf 20)) < 2 ^ 20 := mr_dn_lt (mr_cov_lt cf 20)
  refine pk_loop (fun n i b6 => wX_countAll_6 post (mr_dec q) fw (nI (mr_cov cf 20)) (nI (mr_gs (mr_E cf 20) (mr_cov cf 20)).length) (nI (mr_dn (mr_cov cf 20) (mr_edge (mr_E cf 20) (mr_cov cf 20)))) fe fm fd ff fk n (nI i) a1 a2 b3 a4 a5 b6 a7 a8 a9 a10) (fun i b6 => ∀ j, j < i → b6 j = 0) 21 0 a6 (by omega) (fun j hj => absurd hj (by omega)) ?_ ?_
  · intro n b6 h
    refine pk_le 21 21 (fun _ => ?_) (fun z => absurd z (by omega))
    refine mr_emptyCluesGood hC hN (mr_bz (fun e => nm_e ?_) (fun e => nm_e ?_))
    · refine mr_ca45 (s0 := mr_s0 (mr_ecg (mr_E cf 20) (mr_cov cf 20))) rfl hC hN h8 hrs hq mr_gs_len mr_gs_lt h3 (fun j hj => ?_) (fun ye ym c4 c5 c6 c7 c9 c10 hc => H _ _ ye ym b3 c4 c5 c6 c7 c9 c10 (by rw [mr_all_eq]; exact hc))
      rw [mr_s0_eq _ hj, e, Bool.and_false]
      by_cases e2 : j = 0
      · rw [e2, pk_us]; rfl
      · rw [pk_un e2, h j hj]; rfl
    · refine mr_ca45 (s0 := mr_s0 (mr_ecg (mr_E cf 20) (mr_cov cf 20))) rfl hC hN h8 hrs hq mr_gs_len mr_gs_lt h3 (fun j hj => ?_) (fun ye ym c4 c5 c6 c7 c9 c10 hc => H _ _ ye ym b3 c4 c5 c6 c7 c9 c10 (by rw [mr_all_eq]; exact hc))
      rw [mr_s0_eq _ hj, e, Bool.and_true]
      by_cases e2 : j = 0
      · rw [e2, pk_us]; rfl
      · rw [pk_un e2, h j hj, mr_beq_f e2]; rfl
  · intro n i b6 hi h hw
    refine pk_le 21 i (fun z => absurd z (by omega)) (fun _ => ?_)
    rw [nI_clamp (show i < 2 ^ 31 by omega)]
    refine ⟨pk_in i 21 hi, nm_e (nm_r (nI_1 i) (hw _ (fun j hj => ?_)))⟩
    by_cases e : j = i
    · rw [e, pk_us]
    · rw [pk_un e]
      exact h j (by omega)
theorem mr_countWanted {post : Int32 → Prop} {wt : Nat} {s : Nat → Nat} (hwt : wt ≤ 21) (h6 : mr_A s a6) (hp : post (nI (mr_cw wt s 21))) : wpX_countWanted post ((mr_dec wt), fv, fg, fr, fe, fm, fd, ff, fk, a1, a2, a3, a4, a5, a6, a7, a8, a9, a10) := by
  show ∃ n, wX_countWanted_4 post (mr_dec wt) fv fg fr fe fm fd ff fk a1 a2 a3 a4 a5 a6 a7 a8 a9 a10 n 0 0
  refine pk_loop (σ := Unit) (fun n i _ => wX_countWanted_4 post (mr_dec wt) fv fg fr fe fm fd ff fk a1 a2 a3 a4 a5 a6 a7 a8 a9 a10 n (nI (mr_cw wt s i)) (nI i)) (fun _ _ => True) 21 0 () (by omega) trivial ?_ ?_
  · intro n _ _
    exact pk_le 21 21 (fun _ => hp) (fun z => absurd z (by omega))
  · intro n i _ hi _ hw
    have hw' := hw () trivial
    refine pk_le 21 i (fun z => absurd z (by omega)) (fun _ => ?_)
    unfold wX_countWanted_26
    rw [nI_clamp (show i < 2 ^ 31 by omega), h6 i hi, nI_add]
    refine ek_if (mr_dec_m wt (by omega)) (fun e => ⟨pk_in i 21 hi, ?_⟩) (fun e => ?_)
    · have e2 : mr_cw wt s (i + 1) = mr_cw wt s i + s i := by rw [mr_cw, mr_beq_t e]; rfl
      rw [e2] at hw'
      exact nm_e (nm_r (nI_1 i) hw')
    · refine pk_eq (wt - 1) i (fun e3 => ⟨pk_in i 21 hi, ?_⟩) (fun e3 => ?_) (hx := mr_dec_p e)
      · have e2 : mr_cw wt s (i + 1) = mr_cw wt s i + s i := by rw [mr_cw, mr_beq_t (show wt = i + 1 by omega), Bool.or_true]; rfl
        rw [e2] at hw'
        exact nm_e (nm_r (nI_1 i) hw')
      · have e2 : mr_cw wt s (i + 1) = mr_cw wt s i := by rw [mr_cw, mr_beq_f e, mr_beq_f (show wt ≠ i + 1 by omega)]; rfl
        rw [e2] at hw'
        exact nm_r (nI_1 i) hw'
end
end
section
/-! the class's calls, over a field cf and a total wt -/
def mr_R (cf : Nat → Nat) (wt : Nat) (u : St2) : Prop := match u with
  | (fw, fv, fg, fr, fe, fm, fd, ff, fk, a1, a2, a3, a4, a5, a6, a7, a8, a9, a10) => fw = mr_dec wt ∧ wt ≤ 21 ∧ fv = nI (mr_cov cf 20) ∧ mr_C cf a1 ∧ mr_N a2 ∧ mr_K a8
/-- the same but for one cell's clue -/
def mr_Rc (cf : Nat → Nat) (wt c : Nat) (u : St2) : Prop := match u with
  | (fw, fv, fg, fr, fe, fm, fd, ff, fk, a1, a2, a3, a4, a5, a6, a7, a8, a9, a10) => fw = mr_dec wt ∧ wt ≤ 21 ∧ (∀ j, j < 20 → j ≠ c → cf j ≤ 9 ∧ a1 j = mr_dec (cf j)) ∧ mr_N a2 ∧ mr_K a8
def mr_dc (x : Nat) : Int32 := if x = 0 then -2 else nI (x - 1)
def mr_set (cf : Nat → Nat) (c v : Nat) : Nat → Nat := fun i => if i = c then v else cf i
def mr_min (cf : Nat → Nat) (wt c : Nat) : Nat := bif (mr_cov cf 20).testBit c then mr_lay cf wt (c + 1) else 0
def mr_frF (cf : Nat → Nat) (wt : Nat) : Nat → Nat
  | 0 => 0
  | n + 1 => bif (mr_cov cf 20).testBit n && Nat.beq (mr_min cf wt n) 0 then mr_frF cf wt n ||| 2 ^ n else mr_frF cf wt n
def mr_fre (cf : Nat → Nat) (wt : Nat) : Nat := bif Nat.beq (mr_lay cf wt 0) 0 then 0 else mr_frF cf wt 20
def mr_suF (cf : Nat → Nat) (wt : Nat) : Nat → Nat
  | 0 => 0
  | n + 1 => bif (mr_cov cf 20).testBit n && Nat.beq (mr_min cf wt n) (mr_lay cf wt 0) then mr_suF cf wt n ||| 2 ^ n else mr_suF cf wt n
def mr_sur (cf : Nat → Nat) (wt : Nat) : Nat := bif Nat.beq (mr_lay cf wt 0) 0 then 0 else mr_suF cf wt 20
def mr_beS (b : Bool) (v n : Nat) (p : Nat × Nat) : Nat × Nat := bif b && Nat.ble (v + 1) p.2 then (n + 1, v) else p
def mr_beF (cf : Nat → Nat) (wt : Nat) : Nat → Nat × Nat
  | 0 => (0, mr_lay cf wt 0 + 1)
  | n + 1 => mr_beS ((mr_cov cf 20).testBit n) (mr_min cf wt n) n (mr_beF cf wt n)
def mr_bes (cf : Nat → Nat) (wt : Nat) : Nat := bif Nat.beq (mr_lay cf wt 0) 0 then 0 else (mr_beF cf wt 20).1
def mr_clF (cf : Nat → Nat) (wt c : Nat) : Nat → Nat
  | 0 => 0
  | n + 1 => bif Nat.beq (mr_lay (mr_set cf c (n + 1)) wt 0) 0 then mr_clF cf wt c n else mr_clF cf wt c n ||| 2 ^ n
def mr_gof (c : Nat) : List Nat → Nat
  | [] => 0
  | x :: r => bif x.testBit c then mr_bits x else mr_gof c r
theorem mr_beF_le {cf : Nat → Nat} {wt : Nat} : ∀ n, (mr_beF cf wt n).2 ≤ mr_lay cf wt 0 + 1 := by
  intro n
  induction n with
  | zero => exact Nat.le_refl _
  | succ n ih =>
    rw [mr_beF]
    unfold mr_beS
    cases h : ((mr_cov cf 20).testBit n && Nat.ble (mr_min cf wt n + 1) (mr_beF cf wt n).2)
    · exact ih
    · have h2 := Nat.le_of_ble_eq_true (Bool.and_eq_true_iff.mp h).2
      show mr_min cf wt n ≤ _
      omega
theorem mr_min_lt {cf : Nat → Nat} {wt c N : Nat} (hb : ∀ q, q ≤ 20 → mr_lay cf wt q < N) (hc : c < 20) : mr_min cf wt c < N := by
  unfold mr_min
  cases (mr_cov cf 20).testBit c
  · exact Nat.lt_of_le_of_lt (Nat.zero_le _) (hb 0 (by omega))
  · exact hb (c + 1) (by omega)
section
variable {fw fv fg fr fe fm fd ff fk : Int32} {a1 a2 a3 a4 a5 a6 a7 a8 a9 a10 : Nat → Int32}
theorem mr_R_mk {cf : Nat → Nat} {wt : Nat} (hwt : wt ≤ 21) (hC : mr_C cf a1) (hN : mr_N a2) (h8 : mr_K a8) : mr_R cf wt ((mr_dec wt), (nI (mr_cov cf 20)), fg, fr, fe, fm, fd, ff, fk, a1, a2, a3, a4, a5, a6, a7, a8, a9, a10) := And.intro rfl ⟨hwt, rfl, hC, hN, h8⟩
theorem mr_Rc_of {cf : Nat → Nat} {wt c v : Nat} {u : St2} (h : mr_R (mr_set cf c v) wt u) : mr_Rc cf wt c u := by
  obtain ⟨fw, fv, fg, fr, fe, fm, fd, ff, fk, a1, a2, a3, a4, a5, a6, a7, a8, a9, a10⟩ := u
  obtain ⟨h1, h2, h3, hC, hN, h8⟩ := h
  refine And.intro h1 ⟨h2, fun j hj hc => ?_, hN, h8⟩
  have := hC j hj
  rw [show mr_set cf c v j = cf j from if_neg hc] at this
  exact this
theorem mr_layouts {post : Int32 → St2 → Prop} {u : St2} {cf : Nat → Nat} {wt : Nat} (h : mr_R cf wt u) (H : ∀ u', mr_R cf wt u' → post (nI (mr_lay cf wt 0)) u') : wpX_layouts post u := by
  obtain ⟨fw, fv, fg, fr, fe, fm, fd, ff, fk, a1, a2, a3, a4, a5, a6, a7, a8, a9, a10⟩ := u
  obtain ⟨rfl, hwt, rfl, hC, hN, h8⟩ := h
  unfold wpX_layouts
  dsimp only
  refine mr_countAll0 (q := 0) hC hN h8 (by omega) (fun yg yr ye ym b3 b4 b5 b6 b7 b9 b10 hb => ?_)
  exact mr_countWanted hwt hb (H _ (mr_R_mk hwt hC hN h8))
theorem mr_minedIn {post : Int32 → St2 → Prop} {u : St2} {cf : Nat → Nat} {wt c : Nat} (h : mr_R cf wt u) (hc : c < 20) (H : ∀ u', mr_R cf wt u' → post (nI (mr_min cf wt c)) u') : wpX_minedIn post u (nI c) := by
  obtain ⟨fw, fv, fg, fr, fe, fm, fd, ff, fk, a1, a2, a3, a4, a5, a6, a7, a8, a9, a10⟩ := u
  obtain ⟨rfl, hwt, rfl, hC, hN, h8⟩ := h
  unfold wpX_minedIn
  dsimp only
  refine mr_hasE (Nat.lt_trans (mr_cov_lt cf 20) (by decide)) (by omega) (mr_bz (fun e => ?_) (fun e => ?_))
  · have e2 : mr_min cf wt c = 0 := by unfold mr_min; rw [e]; rfl
    rw [e2] at H
    exact H _ (mr_R_mk hwt hC hN h8)
  · have e2 : mr_min cf wt c = mr_lay cf wt (c + 1) := by unfold mr_min; rw [e]; rfl
    rw [e2] at H
    refine mr_countAll0 (q := c + 1) hC hN h8 (by omega) (fun yg yr ye ym b3 b4 b5 b6 b7 b9 b10 hb => ?_)
    exact mr_countWanted hwt hb (H _ (mr_R_mk hwt hC hN h8))
theorem mr_mined {post : Int32 → St2 → Prop} {u : St2} {cf : Nat → Nat} {wt : Nat} (c : Nat) {x : Int32} (h : mr_R cf wt u) (hc : c < 20) (H : ∀ u', mr_R cf wt u' → post (nI (mr_min cf wt c)) u') (hx : x = nI c := by rfl) : wpX_mined post u x := by
  subst hx
  obtain ⟨fw, fv, fg, fr, fe, fm, fd, ff, fk, a1, a2, a3, a4, a5, a6, a7, a8, a9, a10⟩ := u
  unfold wpX_mined
  dsimp only
  refine mr_badCell hc (br_t rfl (mr_minedIn h hc (fun u' h' => ?_)))
  obtain ⟨fw, fv, fg, fr, fe, fm, fd, ff, fk, a1, a2, a3, a4, a5, a6, a7, a8, a9, a10⟩ := u'
  exact H _ h'
theorem mr_free {post : Int32 → St2 → Prop} {u : St2} {cf : Nat → Nat} {wt : Nat} (h : mr_R cf wt u) (hb : ∀ q, q ≤ 20 → mr_lay cf wt q < 2 ^ 30) (H : ∀ u', mr_R cf wt u' → post (nI (mr_fre cf wt)) u') : wpX_free post u := by
  obtain ⟨fw, fv, fg, fr, fe, fm, fd, ff, fk, a1, a2, a3, a4, a5, a6, a7, a8, a9, a10⟩ := u
  unfold wpX_free
  dsimp only
  refine mr_layouts h (fun u' h' => ?_)
  obtain ⟨fw, fv, fg, fr, fe, fm, fd, ff, fk, a1, a2, a3, a4, a5, a6, a7, a8, a9, a10⟩ := u'
  dsimp only
  have hl := hb 0 (by omega)
  by_cases e : mr_lay cf wt 0 = 0
  · have e2 : mr_fre cf wt = 0 := by unfold mr_fre; rw [mr_beq_t e]; rfl
    rw [e2] at H
    exact ⟨1, pk_le 20 0 (fun z => absurd z (by omega)) (fun _ => pk_le (mr_lay cf wt 0) 0 (fun _ => H _ h') (fun z => absurd z (by omega)))⟩
  · have e2 : mr_fre cf wt = mr_frF cf wt 20 := by unfold mr_fre; rw [mr_beq_f e]; rfl
    rw [e2] at H
    refine pk_loop (σ := St2) (fun n i t => wX_free_9 post (nI (mr_lay cf wt 0)) n (nI (mr_frF cf wt i)) (nI i) t.1 t.2.1 t.2.2.1 t.2.2.2.1 t.2.2.2.2.1 t.2.2.2.2.2.1 t.2.2.2.2.2.2.1 t.2.2.2.2.2.2.2.1 t.2.2.2.2.2.2.2.2.1 t.2.2.2.2.2.2.2.2.2.1 t.2.2.2.2.2.2.2.2.2.2.1 t.2.2.2.2.2.2.2.2.2.2.2.1 t.2.2.2.2.2.2.2.2.2.2.2.2.1 t.2.2.2.2.2.2.2.2.2.2.2.2.2.1 t.2.2.2.2.2.2.2.2.2.2.2.2.2.2.1 t.2.2.2.2.2.2.2.2.2.2.2.2.2.2.2.1 t.2.2.2.2.2.2.2.2.2.2.2.2.2.2.2.2.1 t.2.2.2.2.2.2.2.2.2.2.2.2.2.2.2.2.2.1 t.2.2.2.2.2.2.2.2.2.2.2.2.2.2.2.2.2.2) (fun _ t => mr_R cf wt t) 20 0 (fw, fv, fg, fr, fe, fm, fd, ff, fk, a1, a2, a3, a4, a5, a6, a7, a8, a9, a10) (by omega) h' ?_ ?_
    · intro n t ht
      obtain ⟨fw, fv, fg, fr, fe, fm, fd, ff, fk, a1, a2, a3, a4, a5, a6, a7, a8, a9, a10⟩ := t
      exact pk_le 20 20 (fun _ => H _ ht) (fun z => absurd z (by omega))
    · intro n i t hi ht hw
      obtain ⟨fw, fv, fg, fr, fe, fm, fd, ff, fk, a1, a2, a3, a4, a5, a6, a7, a8, a9, a10⟩ := t
      have ht2 := ht
      obtain ⟨rfl, hwt, rfl, hC, hN, h8⟩ := ht2
      dsimp only
      refine pk_le 20 i (fun z => absurd z (by omega)) (fun _ => pk_le (mr_lay cf wt 0) 0 (fun z => absurd z (by omega)) (fun _ => mr_hasE (Nat.lt_trans (mr_cov_lt cf 20) (by decide)) (by omega) (mr_bz (fun e3 => ?_) (fun e3 => ?_))))
      · have e4 : mr_frF cf wt (i + 1) = mr_frF cf wt i := by rw [mr_frF, e3]; rfl
        have hw' := hw _ ht
        rw [e4] at hw'
        unfold wX_free_43 wX_free_44
        exact br_t rfl (nm_r (nI_1 i) hw')
      · refine mr_minedIn ht hi (fun u2 h2 => ?_)
        obtain ⟨yfw, yfv, yfg, yfr, yfe, yfm, yfd, yff, yfk, ya1, ya2, ya3, ya4, ya5, ya6, ya7, ya8, ya9, ya10⟩ := u2
        have hm := mr_min_lt hb hi
        have hw' := hw _ h2
        dsimp only
        unfold wX_free_43 wX_free_44
        refine pk_eq (mr_min cf wt i) 0 (fun e5 => br_f (by decide) ?_) (fun e5 => br_t rfl ?_)
        · have e4 : mr_frF cf wt (i + 1) = mr_frF cf wt i ||| 2 ^ i := by rw [mr_frF, e3, mr_beq_t e5]; rfl
          rw [e4] at hw'
          rw [mr_shl i (by omega), mr_or]
          exact nm_e (nm_r (nI_1 i) hw')
        · have e4 : mr_frF cf wt (i + 1) = mr_frF cf wt i := by rw [mr_frF, e3, mr_beq_f e5]; rfl
          rw [e4] at hw'
          exact nm_r (nI_1 i) hw'
theorem mr_sure {post : Int32 → St2 → Prop} {u : St2} {cf : Nat → Nat} {wt : Nat} (h : mr_R cf wt u) (hb : ∀ q, q ≤ 20 → mr_lay cf wt q < 2 ^ 30) (H : ∀ u', mr_R cf wt u' → post (nI (mr_sur cf wt)) u') : wpX_sure post u := by
  obtain ⟨fw, fv, fg, fr, fe, fm, fd, ff, fk, a1, a2, a3, a4, a5, a6, a7, a8, a9, a10⟩ := u
  unfold wpX_sure
  dsimp only
  refine mr_layouts h (fun u' h' => ?_)
  obtain ⟨fw, fv, fg, fr, fe, fm, fd, ff, fk, a1, a2, a3, a4, a5, a6, a7, a8, a9, a10⟩ := u'
  dsimp only
  have hl := hb 0 (by omega)
  by_cases e : mr_lay cf wt 0 = 0
  · have e2 : mr_sur cf wt = 0 := by unfold mr_sur; rw [mr_beq_t e]; rfl
    rw [e2] at H
    exact ⟨1, pk_le 20 0 (fun z => absurd z (by omega)) (fun _ => pk_le (mr_lay cf wt 0) 0 (fun _ => H _ h') (fun z => absurd z (by omega)))⟩
  · have e2 : mr_sur cf wt = mr_suF cf wt 20 := by unfold mr_sur; rw [mr_beq_f e]; rfl
    rw [e2] at H
    refine pk_loop (σ := St2) (fun n i t => wX_sure_9 post (nI (mr_lay cf wt 0)) n (nI (mr_suF cf wt i)) (nI i) t.1 t.2.1 t.2.2.1 t.2.2.2.1 t.2.2.2.2.1 t.2.2.2.2.2.1 t.2.2.2.2.2.2.1 t.2.2.2.2.2.2.2.1 t.2.2.2.2.2.2.2.2.1 t.2.2.2.2.2.2.2.2.2.1 t.2.2.2.2.2.2.2.2.2.2.1 t.2.2.2.2.2.2.2.2.2.2.2.1 t.2.2.2.2.2.2.2.2.2.2.2.2.1 t.2.2.2.2.2.2.2.2.2.2.2.2.2.1 t.2.2.2.2.2.2.2.2.2.2.2.2.2.2.1 t.2.2.2.2.2.2.2.2.2.2.2.2.2.2.2.1 t.2.2.2.2.2.2.2.2.2.2.2.2.2.2.2.2.1 t.2.2.2.2.2.2.2.2.2.2.2.2.2.2.2.2.2.1 t.2.2.2.2.2.2.2.2.2.2.2.2.2.2.2.2.2.2) (fun _ t => mr_R cf wt t) 20 0 (fw, fv, fg, fr, fe, fm, fd, ff, fk, a1, a2, a3, a4, a5, a6, a7, a8, a9, a10) (by omega) h' ?_ ?_
    · intro n t ht
      obtain ⟨fw, fv, fg, fr, fe, fm, fd, ff, fk, a1, a2, a3, a4, a5, a6, a7, a8, a9, a10⟩ := t
      exact pk_le 20 20 (fun _ => H _ ht) (fun z => absurd z (by omega))
    · intro n i t hi ht hw
      obtain ⟨fw, fv, fg, fr, fe, fm, fd, ff, fk, a1, a2, a3, a4, a5, a6, a7, a8, a9, a10⟩ := t
      have ht2 := ht
      obtain ⟨rfl, hwt, rfl, hC, hN, h8⟩ := ht2
      dsimp only
      refine pk_le 20 i (fun z => absurd z (by omega)) (fun _ => pk_le (mr_lay cf wt 0) 0 (fun z => absurd z (by omega)) (fun _ => mr_hasE (Nat.lt_trans (mr_cov_lt cf 20) (by decide)) (by omega) (mr_bz (fun e3 => ?_) (fun e3 => ?_))))
      · have e4 : mr_suF cf wt (i + 1) = mr_suF cf wt i := by rw [mr_suF, e3]; rfl
        have hw' := hw _ ht
        rw [e4] at hw'
        unfold wX_sure_44 wX_sure_45
        exact br_t rfl (nm_r (nI_1 i) hw')
      · refine mr_minedIn ht hi (fun u2 h2 => ?_)
        obtain ⟨yfw, yfv, yfg, yfr, yfe, yfm, yfd, yff, yfk, ya1, ya2, ya3, ya4, ya5, ya6, ya7, ya8, ya9, ya10⟩ := u2
        have hm := mr_min_lt hb hi
        have hw' := hw _ h2
        dsimp only
        unfold wX_sure_44 wX_sure_45
        refine pk_eq (mr_min cf wt i) (mr_lay cf wt 0) (fun e5 => br_f (by decide) ?_) (fun e5 => br_t rfl ?_)
        · have e4 : mr_suF cf wt (i + 1) = mr_suF cf wt i ||| 2 ^ i := by rw [mr_suF, e3, mr_beq_t e5]; rfl
          rw [e4] at hw'
          rw [mr_shl i (by omega), mr_or]
          exact nm_e (nm_r (nI_1 i) hw')
        · have e4 : mr_suF cf wt (i + 1) = mr_suF cf wt i := by rw [mr_suF, e3, mr_beq_f e5]; rfl
          rw [e4] at hw'
          exact nm_r (nI_1 i) hw'
theorem mr_best {post : Int32 → St2 → Prop} {u : St2} {cf : Nat → Nat} {wt : Nat} (h : mr_R cf wt u) (hb : ∀ q, q ≤ 20 → mr_lay cf wt q < 2 ^ 30) (H : ∀ u', mr_R cf wt u' → post (mr_dc (mr_bes cf wt)) u') : wpX_best post u := by
  obtain ⟨fw, fv, fg, fr, fe, fm, fd, ff, fk, a1, a2, a3, a4, a5, a6, a7, a8, a9, a10⟩ := u
  unfold wpX_best
  dsimp only
  refine mr_layouts h (fun u' h' => ?_)
  obtain ⟨fw, fv, fg, fr, fe, fm, fd, ff, fk, a1, a2, a3, a4, a5, a6, a7, a8, a9, a10⟩ := u'
  dsimp only
  refine nm_r (nI_1 _) ?_
  have hl := hb 0 (by omega)
  by_cases e : mr_lay cf wt 0 = 0
  · have e2 : mr_bes cf wt = 0 := by unfold mr_bes; rw [mr_beq_t e]; rfl
    rw [e2] at H
    exact ⟨1, pk_le 20 0 (fun z => absurd z (by omega)) (fun _ => pk_le (mr_lay cf wt 0) 0 (fun _ => H _ h') (fun z => absurd z (by omega)))⟩
  · have e2 : mr_bes cf wt = (mr_beF cf wt 20).1 := by unfold mr_bes; rw [mr_beq_f e]; rfl
    rw [e2] at H
    refine pk_loop (σ := St2) (fun n i t => wX_best_15 post (nI (mr_lay cf wt 0)) n (mr_dc (mr_beF cf wt i).1) (nI (mr_beF cf wt i).2) (nI i) t.1 t.2.1 t.2.2.1 t.2.2.2.1 t.2.2.2.2.1 t.2.2.2.2.2.1 t.2.2.2.2.2.2.1 t.2.2.2.2.2.2.2.1 t.2.2.2.2.2.2.2.2.1 t.2.2.2.2.2.2.2.2.2.1 t.2.2.2.2.2.2.2.2.2.2.1 t.2.2.2.2.2.2.2.2.2.2.2.1 t.2.2.2.2.2.2.2.2.2.2.2.2.1 t.2.2.2.2.2.2.2.2.2.2.2.2.2.1 t.2.2.2.2.2.2.2.2.2.2.2.2.2.2.1 t.2.2.2.2.2.2.2.2.2.2.2.2.2.2.2.1 t.2.2.2.2.2.2.2.2.2.2.2.2.2.2.2.2.1 t.2.2.2.2.2.2.2.2.2.2.2.2.2.2.2.2.2.1 t.2.2.2.2.2.2.2.2.2.2.2.2.2.2.2.2.2.2) (fun _ t => mr_R cf wt t) 20 0 (fw, fv, fg, fr, fe, fm, fd, ff, fk, a1, a2, a3, a4, a5, a6, a7, a8, a9, a10) (by omega) h' ?_ ?_
    · intro n t ht
      obtain ⟨fw, fv, fg, fr, fe, fm, fd, ff, fk, a1, a2, a3, a4, a5, a6, a7, a8, a9, a10⟩ := t
      exact pk_le 20 20 (fun _ => H _ ht) (fun z => absurd z (by omega))
    · intro n i t hi ht hw
      obtain ⟨fw, fv, fg, fr, fe, fm, fd, ff, fk, a1, a2, a3, a4, a5, a6, a7, a8, a9, a10⟩ := t
      have ht2 := ht
      obtain ⟨rfl, hwt, rfl, hC, hN, h8⟩ := ht2
      dsimp only
      have hbe := mr_beF_le (cf := cf) (wt := wt) i
      refine pk_le 20 i (fun z => absurd z (by omega)) (fun _ => pk_le (mr_lay cf wt 0) 0 (fun z => absurd z (by omega)) (fun _ => mr_hasE (Nat.lt_trans (mr_cov_lt cf 20) (by decide)) (by omega) (mr_bz (fun e3 => ?_) (fun e3 => ?_))))
      · have e4 : mr_beF cf wt (i + 1) = mr_beF cf wt i := by rw [mr_beF, e3]; rfl
        have hw' := hw _ ht
        rw [e4] at hw'
        unfold wX_best_49 wX_best_63
        exact pk_le (mr_beF cf wt i).2 (mr_beF cf wt i).2 (fun _ => pk_le (mr_beF cf wt i).2 (mr_beF cf wt i).2 (fun _ => nm_r (nI_1 i) hw') (fun z => absurd z (by omega))) (fun z => absurd z (by omega))
      · refine mr_minedIn ht hi (fun u2 h2 => ?_)
        obtain ⟨yfw, yfv, yfg, yfr, yfe, yfm, yfd, yff, yfk, ya1, ya2, ya3, ya4, ya5, ya6, ya7, ya8, ya9, ya10⟩ := u2
        have hm := mr_min_lt hb hi
        have hw' := hw _ h2
        dsimp only
        unfold wX_best_49 wX_best_63
        refine pk_le (mr_beF cf wt i).2 (mr_min cf wt i) (fun z => pk_le (mr_beF cf wt i).2 (mr_min cf wt i) (fun _ => ?_) (fun z2 => absurd z2 (by omega))) (fun z => pk_le (mr_beF cf wt i).2 (mr_min cf wt i) (fun z2 => absurd z2 (by omega)) (fun _ => ?_))
        · have e4 : mr_beF cf wt (i + 1) = mr_beF cf wt i := by rw [mr_beF, e3]; unfold mr_beS; rw [mr_ble_f (show (mr_beF cf wt i).2 < mr_min cf wt i + 1 by omega)]; rfl
          rw [e4] at hw'
          exact nm_r (nI_1 i) hw'
        · have e4 : mr_beF cf wt (i + 1) = (i + 1, mr_min cf wt i) := by rw [mr_beF, e3]; unfold mr_beS; rw [mr_ble_t (show mr_min cf wt i + 1 ≤ (mr_beF cf wt i).2 by omega)]; rfl
          rw [e4] at hw'
          exact nm_r (nI_1 i) hw'
theorem mr_groups {post : Int32 → St2 → Prop} {u : St2} {cf : Nat → Nat} {wt : Nat} (h : mr_R cf wt u) (H : ∀ u', mr_R cf wt u' → post (nI (mr_gs (mr_E cf 20) (mr_cov cf 20)).length) u') : wpX_groups post u := by
  obtain ⟨fw, fv, fg, fr, fe, fm, fd, ff, fk, a1, a2, a3, a4, a5, a6, a7, a8, a9, a10⟩ := u
  obtain ⟨rfl, hwt, rfl, hC, hN, h8⟩ := h
  unfold wpX_groups
  dsimp only
  exact mr_findGroups hC hN (fun b3 h3 => H _ (mr_R_mk hwt hC hN h8))
theorem mr_go16 {post : Int32 → St2 → Prop} {gs : List Nat} {c : Nat} (hc : c < 20) (hgl : gs.length ≤ 20) (hgm : ∀ x ∈ gs, x < 2 ^ 20) (h3 : mr_H gs a3) : ∀ (f i n : Nat), i + f = gs.length → f < n → post (nI (mr_gof c (gs.drop i))) (fw, fv, (nI gs.length), fr, fe, fm, fd, ff, fk, a1, a2, a3, a4, a5, a6, a7, a8, a9, a10) → wX_groupOf_16 post (nI c) fw fv (nI gs.length) fr fe fm fd ff fk a1 a2 a3 a4 a5 a6 a7 a8 a9 a10 n (nI i) := by
  intro f
  induction f with
  | zero =>
    intro i n hi hn hp
    obtain ⟨n, rfl⟩ : ∃ m, n = m + 1 := ⟨n - 1, by omega⟩
    rw [List.drop_eq_nil_of_le (by omega)] at hp
    exact pk_le gs.length i (fun _ => hp) (fun z => absurd z (by omega))
  | succ f ih =>
    intro i n hi hn hp
    obtain ⟨n, rfl⟩ : ∃ m, n = m + 1 := ⟨n - 1, by omega⟩
    have hi' : i < gs.length := by omega
    have hx : gs[i] < 2 ^ 20 := hgm _ (List.getElem_mem hi')
    rw [List.drop_eq_getElem_cons hi', mr_gof] at hp
    refine pk_le gs.length i (fun z => absurd z (by omega)) (fun _ => ?_)
    rw [nI_clamp (show i < 2 ^ 31 by omega), h3 i hi', mr_getD hi']
    refine ⟨pk_in i 20 (by omega), mr_hasE (Nat.lt_trans hx (by decide)) (by omega) (mr_bz (fun e => ?_) (fun e => ⟨pk_in i 20 (by omega), mr_bitsOf (Nat.lt_trans hx (by decide)) ?_⟩))⟩
    · rw [e] at hp
      exact nm_r (nI_1 i) (ih (i + 1) n (by omega) (by omega) hp)
    · rw [e] at hp
      exact hp
theorem mr_groupOf {post : Int32 → St2 → Prop} {u : St2} {cf : Nat → Nat} {wt : Nat} (c : Nat) {x : Int32} (h : mr_R cf wt u) (hc : c < 20) (H : ∀ u', mr_R cf wt u' → post (nI (mr_gof c (mr_gs (mr_E cf 20) (mr_cov cf 20)))) u') (hx : x = nI c := by rfl) : wpX_groupOf post u x := by
  subst hx
  obtain ⟨fw, fv, fg, fr, fe, fm, fd, ff, fk, a1, a2, a3, a4, a5, a6, a7, a8, a9, a10⟩ := u
  obtain ⟨rfl, hwt, rfl, hC, hN, h8⟩ := h
  unfold wpX_groupOf
  dsimp only
  refine mr_badCell hc (br_t rfl (mr_findGroups hC hN (fun b3 h3 => ?_)))
  exact ⟨(mr_gs (mr_E cf 20) (mr_cov cf 20)).length + 1, mr_go16 hc mr_gs_len mr_gs_lt h3 (mr_gs (mr_E cf 20) (mr_cov cf 20)).length 0 _ (by omega) (by omega) (H _ (mr_R_mk hwt hC hN h8))⟩
theorem mr_show {post : Int32 → St2 → Prop} {u : St2} {cf cf' : Nat → Nat} {wt : Nat} (c k : Nat) {x y : Int32} (h : mr_R cf wt u) (hc : c < 20) (hk : k ≤ 8) (hcf : ∀ i, i < 20 → cf' i = if i = c then k + 1 else cf i) (H : ∀ u', mr_R cf' wt u' → post (mr_dc (cf c)) u') (hx : x = nI c := by rfl) (hy : y = nI k := by rfl) : wpX_show post u x y := by
  subst hx hy
  obtain ⟨fw, fv, fg, fr, fe, fm, fd, ff, fk, a1, a2, a3, a4, a5, a6, a7, a8, a9, a10⟩ := u
  obtain ⟨rfl, hwt, rfl, hC, hN, h8⟩ := h
  unfold wpX_show
  dsimp only
  have h9 := (hC c hc).1
  rw [nI_clamp (show c < 2 ^ 31 by omega), (hC c hc).2]
  have hC' : mr_C cf' (upd a1 c (nI k)) := fun i hi => by
    rw [hcf i hi]
    by_cases e : i = c
    · rw [if_pos e, e, pk_us]
      exact ⟨by omega, rfl⟩
    · rw [if_neg e, pk_un e]
      exact hC i hi
  refine mr_badCell hc (br_t rfl (br_f (nI_pos (by omega)) (br_t (nI_le (b := 8) hk (by omega)) ⟨pk_in c 20 hc, nm_e ⟨pk_in c 20 hc, nm_e (mr_refresh hC' ?_)⟩⟩)))
  dsimp only
  have P := H _ (mr_R_mk (fg := fg) (fr := fr) (fe := fe) (fm := fm) (fd := fd) (ff := ff) (fk := fk) (a3 := a3) (a4 := a4) (a5 := a5) (a6 := a6) (a7 := a7) (a9 := a9) (a10 := a10) hwt hC' hN h8)
  refine ek_if (mr_dec_m (cf c) (by omega)) (fun e => ?_) (fun e => ?_)
  · rw [e] at P
    exact P
  · rw [mr_dec_p e]
    unfold mr_dc at P
    rw [if_neg e] at P
    exact P
theorem mr_showBad {post : Int32 → St2 → Prop} {u : St2} {x y : Int32} (hb : (20 : Int32) ≤ x ∨ 0 ≤ x ∧ x < 20 ∧ (y < 0 ∨ 8 < y)) (H : post (-1) u) : wpX_show post u x y := by
  obtain ⟨fw, fv, fg, fr, fe, fm, fd, ff, fk, a1, a2, a3, a4, a5, a6, a7, a8, a9, a10⟩ := u
  unfold wpX_show wpX_badCell
  dsimp only
  rcases hb with h | ⟨h1, h2, h3⟩
  · have n0 : ¬ x < 0 := Int32.not_lt.mpr (Int32.le_trans (by decide : (0 : Int32) ≤ 20) h)
    have n1 : ¬ x < 20 := Int32.not_lt.mpr h
    exact br_f n0 (br_f n1 (br_f (by decide) H))
  · refine br_f (Int32.not_lt.mpr h1) (br_t h2 (br_t rfl ?_))
    rcases h3 with h3 | h3
    · exact br_t h3 H
    · have n0 : ¬ y < 0 := Int32.not_lt.mpr (Int32.le_of_lt (Int32.lt_trans (by decide : (0 : Int32) < 8) h3))
      exact br_f n0 (br_f (Int32.not_le.mpr h3) H)
theorem mr_cover {post : Int32 → St2 → Prop} {u : St2} {cf cf' : Nat → Nat} {wt : Nat} (c : Nat) {x : Int32} (h : mr_R cf wt u) (hc : c < 20) (h0 : cf c ≠ 0) (hcf : ∀ i, i < 20 → cf' i = if i = c then 0 else cf i) (H : ∀ u', mr_R cf' wt u' → post (nI (cf c - 1)) u') (hx : x = nI c := by rfl) : wpX_cover post u x := by
  subst hx
  obtain ⟨fw, fv, fg, fr, fe, fm, fd, ff, fk, a1, a2, a3, a4, a5, a6, a7, a8, a9, a10⟩ := u
  obtain ⟨rfl, hwt, rfl, hC, hN, h8⟩ := h
  unfold wpX_cover
  dsimp only
  rw [nI_clamp (show c < 2 ^ 31 by omega)]
  have hC' : mr_C cf' (upd a1 c (-1)) := fun i hi => by
    rw [hcf i hi]
    by_cases e : i = c
    · rw [if_pos e, e, pk_us]
      exact ⟨by omega, rfl⟩
    · rw [if_neg e, pk_un e]
      exact hC i hi
  have P := H _ (mr_R_mk (fg := fg) (fr := fr) (fe := fe) (fm := fm) (fd := fd) (ff := ff) (fk := fk) (a3 := a3) (a4 := a4) (a5 := a5) (a6 := a6) (a7 := a7) (a9 := a9) (a10 := a10) hwt hC' hN h8)
  rw [← mr_clv hC hc h0] at P
  exact mr_badCell hc (br_t rfl ⟨pk_in c 20 hc, mr_cl hC hc (fun z => absurd z h0) (fun _ => ⟨pk_in c 20 hc, nm_e ⟨pk_in c 20 hc, nm_e (mr_refresh hC' P)⟩⟩)⟩)
theorem mr_coverNone {post : Int32 → St2 → Prop} {u : St2} {cf : Nat → Nat} {wt : Nat} (c : Nat) {x : Int32} (h : mr_R cf wt u) (hc : c < 20) (h0 : cf c = 0) (H : post (-2) u) (hx : x = nI c := by rfl) : wpX_cover post u x := by
  subst hx
  obtain ⟨fw, fv, fg, fr, fe, fm, fd, ff, fk, a1, a2, a3, a4, a5, a6, a7, a8, a9, a10⟩ := u
  obtain ⟨rfl, hwt, rfl, hC, hN, h8⟩ := h
  unfold wpX_cover
  dsimp only
  rw [nI_clamp (show c < 2 ^ 31 by omega)]
  exact mr_badCell hc (br_t rfl ⟨pk_in c 20 hc, mr_cl hC hc (fun _ => H) (fun z => absurd h0 z)⟩)
theorem mr_total {post : Int32 → St2 → Prop} {u : St2} {cf : Nat → Nat} {wt : Nat} (wt' : Nat) {x : Int32} (h : mr_R cf wt u) (hw' : wt' ≤ 21) (H : ∀ u', mr_R cf wt' u' → post (mr_dec wt) u') (hx : x = mr_dec wt' := by rfl) : wpX_total post u x := by
  subst hx
  obtain ⟨fw, fv, fg, fr, fe, fm, fd, ff, fk, a1, a2, a3, a4, a5, a6, a7, a8, a9, a10⟩ := u
  obtain ⟨rfl, hwt, rfl, hC, hN, h8⟩ := h
  have h1 : ¬ mr_dec wt' < (-1) := (by decide +kernel : ∀ w, w < 22 → ¬ mr_dec w < (-1)) wt' (by omega)
  have h2 : mr_dec wt' ≤ 20 := (by decide +kernel : ∀ w, w < 22 → mr_dec w ≤ 20) wt' (by omega)
  exact br_f h1 (br_t h2 (H _ (mr_R_mk hw' hC hN h8)))
theorem mr_withMines {post : Int32 → St2 → Prop} {u : St2} {cf : Nat → Nat} {wt : Nat} (k : Nat) {x : Int32} (h : mr_R cf wt u) (hk : k ≤ 20) (H : ∀ u', mr_R cf wt u' → post (nI (bif Nat.beq wt 0 || Nat.beq wt (k + 1) then mr_g (mr_all cf 0) k else 0)) u') (hx : x = nI k := by rfl) : wpX_withMines post u x := by
  subst hx
  obtain ⟨fw, fv, fg, fr, fe, fm, fd, ff, fk, a1, a2, a3, a4, a5, a6, a7, a8, a9, a10⟩ := u
  obtain ⟨rfl, hwt, rfl, hC, hN, h8⟩ := h
  unfold wpX_withMines
  dsimp only
  refine mr_countAll0 (q := 0) hC hN h8 (by omega) (fun yg yr ye ym b3 b4 b5 b6 b7 b9 b10 hb => ?_)
  have P := H _ (mr_R_mk (fg := yg) (fr := yr) (fe := ye) (fm := ym) (fd := fd) (ff := ff) (fk := fk) (a3 := b3) (a4 := b4) (a5 := b5) (a6 := b6) (a7 := b7) (a9 := b9) (a10 := b10) hwt hC hN h8)
  dsimp only
  unfold wX_withMines_31 wX_withMines_35 wX_withMines_36
  rw [nI_clamp (show k < 2 ^ 31 by omega), hb k (by omega)]
  refine br_f (nI_pos (by omega)) (pk_le 21 k (fun z => absurd z (by omega)) (fun _ => ek_if (mr_dec_m wt (by omega)) (fun e => br_t rfl ⟨pk_in k 21 (by omega), ?_⟩) (fun e => ?_)))
  · rw [mr_beq_t e] at P
    exact P
  · refine pk_eq (wt - 1) k (fun e2 => br_t rfl ⟨pk_in k 21 (by omega), ?_⟩) (fun e2 => br_f (by decide) ?_) (hx := mr_dec_p e)
    · rw [mr_beq_t (show wt = k + 1 by omega), Bool.or_true] at P
      exact P
    · rw [mr_beq_f e, mr_beq_f (show wt ≠ k + 1 by omega)] at P
      exact P
theorem mr_withMinesBad {post : Int32 → St2 → Prop} {u : St2} {cf : Nat → Nat} {wt : Nat} {x : Int32} (h : mr_R cf wt u) (hx : x < 0 ∨ ¬ x < 0 ∧ 21 ≤ x) (H : ∀ u', mr_R cf wt u' → post 0 u') : wpX_withMines post u x := by
  obtain ⟨fw, fv, fg, fr, fe, fm, fd, ff, fk, a1, a2, a3, a4, a5, a6, a7, a8, a9, a10⟩ := u
  obtain ⟨rfl, hwt, rfl, hC, hN, h8⟩ := h
  unfold wpX_withMines
  dsimp only
  refine mr_countAll0 (q := 0) hC hN h8 (by omega) (fun yg yr ye ym b3 b4 b5 b6 b7 b9 b10 hb => ?_)
  have P := H _ (mr_R_mk (fg := yg) (fr := yr) (fe := ye) (fm := ym) (fd := fd) (ff := ff) (fk := fk) (a3 := b3) (a4 := b4) (a5 := b5) (a6 := b6) (a7 := b7) (a9 := b9) (a10 := b10) hwt hC hN h8)
  dsimp only
  unfold wX_withMines_31 wX_withMines_36
  rcases hx with hx | ⟨h1, h2⟩
  · exact br_t hx (br_f (by decide) P)
  · exact br_f h1 (br_t h2 (br_f (by decide) P))
theorem mr_clues {post : Int32 → St2 → Prop} {u : St2} {cf : Nat → Nat} {wt : Nat} (c : Nat) {x : Int32} (h : mr_R cf wt u) (hc : c < 20) (h0 : cf c = 0) (hb : ∀ k, k < 9 → mr_lay (mr_set cf c (k + 1)) wt 0 < 2 ^ 30) (H : ∀ u', mr_R cf wt u' → post (nI (mr_clF cf wt c 9)) u') (hx : x = nI c := by rfl) : wpX_clues post u x := by
  subst hx
  obtain ⟨fw, fv, fg, fr, fe, fm, fd, ff, fk, a1, a2, a3, a4, a5, a6, a7, a8, a9, a10⟩ := u
  obtain ⟨rfl, hwt, rfl, hC, hN, h8⟩ := h
  unfold wpX_clues
  dsimp only
  have ec : (nI c).toNatClampNeg = c := nI_clamp (by omega)
  rw [ec]
  refine mr_badCell hc (br_t rfl ⟨pk_in c 20 hc, mr_cl hC hc (fun _ => ?_) (fun z => absurd h0 z)⟩)
  refine pk_loop (σ := St2) (fun n i t => wX_clues_26 post (nI c) n (nI (mr_clF cf wt c i)) (nI i) t.1 t.2.1 t.2.2.1 t.2.2.2.1 t.2.2.2.2.1 t.2.2.2.2.2.1 t.2.2.2.2.2.2.1 t.2.2.2.2.2.2.2.1 t.2.2.2.2.2.2.2.2.1 t.2.2.2.2.2.2.2.2.2.1 t.2.2.2.2.2.2.2.2.2.2.1 t.2.2.2.2.2.2.2.2.2.2.2.1 t.2.2.2.2.2.2.2.2.2.2.2.2.1 t.2.2.2.2.2.2.2.2.2.2.2.2.2.1 t.2.2.2.2.2.2.2.2.2.2.2.2.2.2.1 t.2.2.2.2.2.2.2.2.2.2.2.2.2.2.2.1 t.2.2.2.2.2.2.2.2.2.2.2.2.2.2.2.2.1 t.2.2.2.2.2.2.2.2.2.2.2.2.2.2.2.2.2.1 t.2.2.2.2.2.2.2.2.2.2.2.2.2.2.2.2.2.2) (fun _ t => mr_Rc cf wt c t) 9 0 ((mr_dec wt), (nI (mr_cov cf 20)), fg, fr, fe, fm, fd, ff, fk, a1, a2, a3, a4, a5, a6, a7, a8, a9, a10) (by omega) (And.intro rfl ⟨hwt, fun j hj _ => hC j hj, hN, h8⟩) ?_ ?_
  · intro n t ht
    obtain ⟨fw, fv, fg, fr, fe, fm, fd, ff, fk, a1, a2, a3, a4, a5, a6, a7, a8, a9, a10⟩ := t
    obtain ⟨rfl, hwt, hC, hN, h8⟩ := ht
    dsimp only
    refine pk_lt 8 9 (fun _ => ?_) (fun z => absurd z (by omega))
    rw [ec]
    refine ⟨pk_in c 20 hc, nm_e (mr_refresh (cf := cf) (fun i hi => ?_) (H _ (mr_R_mk hwt (fun i hi => ?_) hN h8)))⟩
    all_goals
      by_cases e : i = c
      · rw [e, h0, pk_us]
        exact ⟨by omega, rfl⟩
      · rw [pk_un e]
        exact hC i hi e
  · intro n i t hi ht hw
    obtain ⟨fw, fv, fg, fr, fe, fm, fd, ff, fk, a1, a2, a3, a4, a5, a6, a7, a8, a9, a10⟩ := t
    obtain ⟨rfl, hwt, hC, hN, h8⟩ := ht
    dsimp only
    refine pk_lt 8 i (fun z => absurd z (by omega)) (fun _ => ?_)
    rw [ec]
    have hC' : mr_C (mr_set cf c (i + 1)) (upd a1 c (nI i)) := fun j hj => by
      by_cases e : j = c
      · rw [show mr_set cf c (i + 1) j = i + 1 from if_pos e, e, pk_us]
        exact ⟨by omega, rfl⟩
      · rw [show mr_set cf c (i + 1) j = cf j from if_neg e, pk_un e]
        exact hC j hj e
    refine ⟨pk_in c 20 hc, nm_e (mr_refresh hC' ?_)⟩
    dsimp only
    refine mr_layouts (mr_R_mk hwt hC' hN h8) (fun u2 h2 => ?_)
    have hw' := hw u2 (mr_Rc_of h2)
    obtain ⟨yfw, yfv, yfg, yfr, yfe, yfm, yfd, yff, yfk, ya1, ya2, ya3, ya4, ya5, ya6, ya7, ya8, ya9, ya10⟩ := u2
    dsimp only at hw' ⊢
    have hl := hb i hi
    refine pk_le (mr_lay (mr_set cf c (i + 1)) wt 0) 0 (fun z => ?_) (fun z => ?_)
    · have e4 : mr_clF cf wt c (i + 1) = mr_clF cf wt c i := by rw [mr_clF, mr_beq_t (by omega)]; rfl
      rw [e4] at hw'
      exact nm_r (nI_1 i) hw'
    · have e4 : mr_clF cf wt c (i + 1) = mr_clF cf wt c i ||| 2 ^ i := by rw [mr_clF, mr_beq_f (by omega)]; rfl
      rw [e4] at hw'
      rw [mr_shl i (by omega), mr_or]
      exact nm_e (nm_r (nI_1 i) hw')
theorem mr_cluesShown {post : Int32 → St2 → Prop} {u : St2} {cf : Nat → Nat} {wt : Nat} (c : Nat) {x : Int32} (h : mr_R cf wt u) (hc : c < 20) (h0 : cf c ≠ 0) (H : post 0 u) (hx : x = nI c := by rfl) : wpX_clues post u x := by
  subst hx
  obtain ⟨fw, fv, fg, fr, fe, fm, fd, ff, fk, a1, a2, a3, a4, a5, a6, a7, a8, a9, a10⟩ := u
  obtain ⟨rfl, hwt, rfl, hC, hN, h8⟩ := h
  unfold wpX_clues
  dsimp only
  rw [nI_clamp (show c < 2 ^ 31 by omega)]
  exact mr_badCell hc (br_t rfl ⟨pk_in c 20 hc, mr_cl hC hc (fun z => absurd z h0) (fun _ => H)⟩)
end
end
section
/-! the constructor -/
def mr_e0 : Nat → Nat := fun _ => 0
def mr_adj (c d : Nat) : Bool := !(decide (nI c / 5 - nI d / 5 < (-1))) && (!(decide (1 < nI c / 5 - nI d / 5)) && (!(decide ((nI c - nI c / 5 * 5) - (nI d - nI d / 5 * 5) < (-1))) && (!(decide (1 < (nI c - nI c / 5 * 5) - (nI d - nI d / 5 * 5))) && !(decide (nI c = nI d)))))
def mr_nbF (c : Nat) : Nat → Nat
  | 0 => 0
  | d + 1 => bif mr_adj c d then mr_nbF c d ||| 2 ^ d else mr_nbF c d
theorem mr_nb_near : ∀ c, c < 20 → mr_nbF c 20 = mr_near c := by decide +kernel
theorem mr_ch_0 : ∀ n, n < 21 → mr_ch n 0 = 1 := by decide +kernel
theorem mr_ch_s : ∀ n, n < 20 → ∀ k, k < 20 → k ≤ n → mr_ch (n + 1) (k + 1) = mr_ch n k + mr_ch n (k + 1) := by decide +kernel
theorem mr_ch_z : ∀ n, n < 21 → ∀ k, k < 21 → n < k → mr_ch n k = 0 := by decide +kernel
section
variable {fw fv fg fr fe fm fd ff fk : Int32} {a1 a2 a3 a4 a5 a6 a7 a8 a9 a10 : Nat → Int32}
theorem mr_neighboursOf {post : Int32 → Prop} {c : Nat} (hc : c < 20) (hp : post (nI (mr_near c))) : wpX_neighboursOf post (fw, fv, fg, fr, fe, fm, fd, ff, fk, a1, a2, a3, a4, a5, a6, a7, a8, a9, a10) (nI c) := by
  show ∃ n, wX_neighboursOf_4 post (nI c) fw fv fg fr fe fm fd ff fk a1 a2 a3 a4 a5 a6 a7 a8 a9 a10 n 0 0
  refine pk_loop (σ := Unit) (fun n i _ => wX_neighboursOf_4 post (nI c) fw fv fg fr fe fm fd ff fk a1 a2 a3 a4 a5 a6 a7 a8 a9 a10 n (nI (mr_nbF c i)) (nI i)) (fun _ _ => True) 20 0 () (by omega) trivial ?_ ?_
  · intro n _ _
    rw [mr_nb_near c hc]
    exact pk_le 20 20 (fun _ => hp) (fun z => absurd z (by omega))
  · intro n i _ hi _ hw
    have hw' := hw () trivial
    refine pk_le 20 i (fun z => absurd z (by omega)) (fun _ => ⟨by decide, by decide, nm_e ⟨by decide, by decide, nm_e ?_⟩⟩)
    unfold wX_neighboursOf_61 wX_neighboursOf_62
    rw [mr_shl i (by omega), mr_or]
    have F : mr_adj c i = false → wX_neighboursOf_4 post (nI c) fw fv fg fr fe fm fd ff fk a1 a2 a3 a4 a5 a6 a7 a8 a9 a10 n (nI (mr_nbF c i)) (nI (i + 1)) := fun e => by
      have e2 : mr_nbF c (i + 1) = mr_nbF c i := by rw [mr_nbF, e]; rfl
      rw [e2] at hw'
      exact hw'
    have Tt : mr_adj c i = true → wX_neighboursOf_4 post (nI c) fw fv fg fr fe fm fd ff fk a1 a2 a3 a4 a5 a6 a7 a8 a9 a10 n (nI (mr_nbF c i ||| 2 ^ i)) (nI (i + 1)) := fun e => by
      have e2 : mr_nbF c (i + 1) = mr_nbF c i ||| 2 ^ i := by rw [mr_nbF, e]; rfl
      rw [e2] at hw'
      exact hw'
    unfold mr_adj at F Tt
    refine br_c (fun h => br_t rfl (nm_r (nI_1 i) (F (by rw [decide_eq_true h]; rfl)))) (fun h => ?_)
    rw [decide_eq_false h] at F Tt
    refine br_c (fun h => br_t rfl (nm_r (nI_1 i) (F (by rw [decide_eq_true h]; rfl)))) (fun h => ?_)
    rw [decide_eq_false h] at F Tt
    refine br_c (fun h => br_t rfl (nm_r (nI_1 i) (F (by rw [decide_eq_true h]; rfl)))) (fun h => ?_)
    rw [decide_eq_false h] at F Tt
    refine br_c (fun h => br_t rfl (nm_r (nI_1 i) (F (by rw [decide_eq_true h]; rfl)))) (fun h => ?_)
    rw [decide_eq_false h] at F Tt
    refine br_c (fun h => br_t rfl (nm_r (nI_1 i) (F (by rw [decide_eq_true h]; rfl)))) (fun h => ?_)
    rw [decide_eq_false h] at Tt
    exact br_f (by decide) (nm_e (nm_r (nI_1 i) (Tt rfl)))
/-- the choose table under way: the rows below n, of the row n what stands below k, the rest 0 -/
def mr_chI (n k : Nat) (a : Nat → Int32) : Prop := (∀ i j, i < n → j ≤ 20 → a (21 * i + j) = nI (mr_ch i j)) ∧ (∀ j, j < k → a (21 * n + j) = nI (mr_ch n j)) ∧ (∀ j, 21 * n + k ≤ j → a j = 0)
theorem mr_in150 {post : St2 → Prop} {mc ms kc ks : Nat} {J : Int32 → (Nat → Int32) → (Nat → Int32) → (Nat → Int32) → (Nat → Int32) → (Nat → Int32) → (Nat → Int32) → (Nat → Int32) → (Nat → Int32) → (Nat → Int32) → (Nat → Int32) → Prop} {n : Nat} (hn : n < 21) (h8 : mr_chI n 1 a8) (H : ∀ b8, mr_chI (n + 1) 0 b8 → J (nI (n + 1)) a1 a2 a3 a4 a5 a6 a7 b8 a9 a10) : ∃ f, wX_init_150 post mc ms J (nI n) kc ks fw fv fg fr fe fm fd ff fk f 1 a1 a2 a3 a4 a5 a6 a7 a8 a9 a10 := by
  refine pk_loop (fun f k b8 => wX_init_150 post mc ms J (nI n) kc ks fw fv fg fr fe fm fd ff fk f (nI k) a1 a2 a3 a4 a5 a6 a7 b8 a9 a10) (fun k b8 => 1 ≤ k ∧ mr_chI n k b8) (n + 1) 1 a8 (by omega) ⟨by omega, h8⟩ ?_ ?_
  · intro f b8 h
    obtain ⟨_, g1, g2, g3⟩ := h
    refine pk_lt n (n + 1) (fun _ => nm_r (nI_1 n) (H b8 ⟨fun i j hi hj => ?_, fun j hj => absurd hj (by omega), fun j hj => g3 j (by omega)⟩)) (fun z => absurd z (by omega))
    by_cases e : i = n
    · subst e
      by_cases e2 : j < i + 1
      · exact g2 j e2
      · rw [g3 (21 * i + j) (by omega), mr_ch_z i hn j (by omega) (by omega)]
        rfl
    · exact g1 i j (by omega) hj
  · intro f k b8 hk h hw
    obtain ⟨hk1, g1, g2, g3⟩ := h
    obtain ⟨m, rfl⟩ : ∃ m, n = m + 1 := ⟨n - 1, by omega⟩
    obtain ⟨l, rfl⟩ : ∃ l, k = l + 1 := ⟨k - 1, by omega⟩
    refine pk_lt (m + 1) (l + 1) (fun z => absurd z (by omega)) (fun _ => ?_)
    rw [nI_pred, mr_21, mr_21, show 21 * m + (l + 1) = 21 * m + l + 1 by omega, nI_pred, nI_clamp (show 21 * m + l < 2 ^ 31 by omega), nI_clamp (show 21 * m + l + 1 < 2 ^ 31 by omega), nI_clamp (show 21 * (m + 1) + (l + 1) < 2 ^ 31 by omega)]
    rw [g1 m l (by omega) (by omega), show 21 * m + l + 1 = 21 * m + (l + 1) by omega, g1 m (l + 1) (by omega) (by omega), nI_add, ← mr_ch_s m (by omega) l (by omega) (by omega)]
    refine ⟨pk_in (21 * m + l) 441 (by omega), pk_in (21 * m + (l + 1)) 441 (by omega), pk_in (21 * (m + 1) + (l + 1)) 441 (by omega), nm_e (nm_r (nI_1 (l + 1)) (hw _ ⟨by omega, fun i j hi hj => ?_, fun j hj => ?_, fun j hj => ?_⟩))⟩
    · rw [pk_un (by omega), g1 i j hi hj]
    · by_cases e : j = l + 1
      · rw [e, pk_us]
      · rw [pk_un (by omega), g2 j (by omega)]
    · rw [pk_un (by omega), g3 j (by omega)]
theorem mr_in132 {post : St2 → Prop} {mc ms kc ks : Nat} (h8 : mr_chI 0 0 a8) (H : ∀ b8, mr_K b8 → post (fw, fv, fg, fr, fe, fm, fd, ff, fk, a1, a2, a3, a4, a5, a6, a7, b8, a9, a10)) : ∃ f, wX_init_132 post mc ms kc ks fw fv fg fr fe fm fd ff fk f 0 a1 a2 a3 a4 a5 a6 a7 a8 a9 a10 := by
  refine pk_loop (fun f n b8 => wX_init_132 post mc ms kc ks fw fv fg fr fe fm fd ff fk f (nI n) a1 a2 a3 a4 a5 a6 a7 b8 a9 a10) (fun n b8 => mr_chI n 0 b8) 21 0 a8 (by omega) h8 ?_ ?_
  · intro f b8 h
    exact pk_le 21 21 (fun _ => H b8 (fun n k hn hk => h.1 n k (by omega) hk)) (fun z => absurd z (by omega))
  · intro f n b8 hn h hw
    obtain ⟨g1, g2, g3⟩ := h
    have e21 : (21 : Int32) * nI n = nI (21 * n) := by rw [show (21 : Int32) = nI 21 from rfl, pk_mul]
    refine pk_le 21 n (fun z => absurd z (by omega)) (fun _ => ?_)
    rw [e21, nI_clamp (show 21 * n < 2 ^ 31 by omega)]
    refine ⟨pk_in (21 * n) 441 (by omega), nm_e (mr_in150 hn ⟨fun i j hi hj => ?_, fun j hj => ?_, fun j hj => ?_⟩ (fun c8 hc => hw c8 hc))⟩
    · rw [pk_un (by omega), g1 i j hi hj]
    · rw [show 21 * n + j = 21 * n by omega, pk_us, show j = 0 by omega, mr_ch_0 n hn]
      rfl
    · rw [pk_un (by omega), g3 j (by omega)]
end
theorem mr_init {post : St2 → Prop} {mc ms : Nat} {u : St1} (hmc : 10 ≤ mc) (hms : 1424 ≤ ms) (H : ∀ u', mr_R mr_e0 0 u' → post u') : wpX_init post mc ms u := by
  obtain ⟨fw, fv, fg, fr, fe, fm, fd, ff, fk⟩ := u
  unfold wpX_init
  dsimp only
  refine ⟨by omega, by omega, by omega, by omega, by omega, by omega, by omega, by omega, by omega, by omega, by omega, by omega, by omega, by omega, by omega, by omega, by omega, by omega, by omega, by omega, ?_⟩
  refine pk_loop (σ := (Nat → Int32) × (Nat → Int32)) (fun n i t => wX_init_100 post mc ms 10 1424 (-1) 1048575 fg fr fe fm fd ff fk n (nI i) t.1 t.2 (fun _ => 0) (fun _ => 0) (fun _ => 0) (fun _ => 0) (fun _ => 0) (fun _ => 0) (fun _ => 0) (fun _ => 0)) (fun i t => ∀ j, j < i → t.1 j = -1 ∧ t.2 j = nI (mr_near j)) 20 0 (fun _ => 0, fun _ => 0) (by omega) (fun j hj => absurd hj (by omega)) ?_ ?_
  · intro n t ht
    obtain ⟨b1, b2⟩ := t
    dsimp only at ht ⊢
    refine pk_le 20 20 (fun _ => mr_in132 ⟨fun i j hi _ => absurd hi (by omega), fun j hj => absurd hj (by omega), fun j _ => rfl⟩ (fun b8 h8 => H _ ?_)) (fun z => absurd z (by omega))
    exact And.intro rfl ⟨by omega, (by decide +kernel : (1048575 : Int32) = nI (mr_cov mr_e0 20)), fun c hc => ⟨Nat.zero_le _, (ht c hc).1⟩, fun c hc => (ht c hc).2, h8⟩
  · intro n i t hi ht hw
    obtain ⟨b1, b2⟩ := t
    dsimp only at ht ⊢
    refine pk_le 20 i (fun z => absurd z (by omega)) (fun _ => ?_)
    rw [nI_clamp (show i < 2 ^ 31 by omega)]
    refine ⟨pk_in i 20 hi, nm_e (mr_neighboursOf hi ⟨pk_in i 20 hi, nm_e (nm_r (nI_1 i) (hw (upd b1 i (-1), upd b2 i (nI (mr_near i))) (fun j hj => ?_)))⟩)⟩
    show upd b1 i (-1) j = -1 ∧ upd b2 i (nI (mr_near i)) j = nI (mr_near j)
    by_cases e : j = i
    · rw [e, pk_us, pk_us]
      exact ⟨rfl, rfl⟩
    · rw [pk_un e, pk_un e]
      exact ht j (by omega)
end
section
/-! the rules -/
theorem mr_dz {x y : Nat} (hx : x < 2 ^ 29) (hy : y < 2 ^ 29) : nI x - nI y = 0 ↔ x = y := by
  rw [← Int32.toInt_inj, pk_sub_toInt (by omega) (by omega), show (0 : Int32).toInt = 0 from by decide]
  omega
theorem mr_deq {x y b : Nat} (hx : x < 2 ^ 29) (hy : y < 2 ^ 29) (hb : b < 2 ^ 29) : nI x - nI y = nI b ↔ x = y + b := by
  rw [← Int32.toInt_inj, pk_sub_toInt (by omega) (by omega), nI_toInt (by omega)]
  omega
theorem mr_dlt {x y : Nat} (hx : x < 2 ^ 29) (hy : y < 2 ^ 29) : nI x - nI y < 0 ↔ x < y := by
  rw [Int32.lt_iff_toInt_lt, pk_sub_toInt (by omega) (by omega), show (0 : Int32).toInt = 0 from by decide]
  omega
theorem mr_dle {x y b : Nat} (hx : x < 2 ^ 29) (hy : y < 2 ^ 29) (hb : b < 2 ^ 29) : nI x - nI y ≤ nI b ↔ x ≤ y + b := by
  rw [Int32.le_iff_toInt_le, pk_sub_toInt (by omega) (by omega), nI_toInt (by omega)]
  omega
theorem mr_dd (a b c d : Nat) : (nI a - nI b) - (nI c - nI d) = nI (a + d) - nI (b + c) := by
  rw [← nI_add, ← nI_add]
  grind
def mr_oa (nr cv dm df : Nat) : Nat := mr_dn (mr_dn (nr &&& cv) dm) df
theorem mr_oa_lt {nr cv dm df : Nat} (h : nr < 2 ^ 20) : mr_oa nr cv dm df < 2 ^ 20 := mr_dn_lt (mr_dn_lt (mr_and_lt h))
def mr_dM (s x y dm : Nat) : Nat := bif !(Nat.beq s 0) && Nat.beq x (y + mr_bits s) then dm ||| s else dm
def mr_dF (s x y df : Nat) : Nat := bif !(Nat.beq s 0) && Nat.beq x y then df ||| s else df
def mr_dR (s x y : Nat) : Bool := !(Nat.beq s 0) && (Nat.beq x y || Nat.beq x (y + mr_bits s))
def mr_ck1 (cv dm df : Nat) (b : Bool) (p : Nat × Nat × Nat) : Bool := b || (Nat.ble (p.2.2 + 1) (mr_bits (p.2.1 &&& dm)) || Nat.ble (mr_bits (p.2.1 &&& dm) + mr_bits (mr_oa p.2.1 cv dm df) + 1) p.2.2)
def mr_chk (L : List (Nat × Nat × Nat)) (cv dm df : Nat) (b : Bool) : Bool := L.foldl (mr_ck1 cv dm df) b
abbrev mr_Q : Type := Bool × Nat × Nat × Bool
def mr_fbo {α : Type} (b : Bool) (k : Bool → α) : α := match b with
  | true => k true
  | false => k false
theorem mr_fbo_eq {α : Type} (b : Bool) (k : Bool → α) : mr_fbo b k = k b := by cases b <;> rfl
def mr_mk (a : Bool) (d f : Nat) (c : Bool) : mr_Q := mr_fbo a (fun a => mr_fn d (fun d => mr_fn f (fun f => mr_fbo c (fun c => (a, d, f, c)))))
theorem mr_mk_eq (a : Bool) (d f : Nat) (c : Bool) : mr_mk a d f c = (a, d, f, c) := by
  unfold mr_mk
  rw [mr_fbo_eq, mr_fn_eq, mr_fn_eq, mr_fbo_eq]
/-- one clue of rule one -/
def mr_r1 (L : List (Nat × Nat × Nat)) (cv : Nat) (t : mr_Q) (p : Nat × Nat × Nat) : mr_Q := match t with
  | (an, dm, df, true) => (an, dm, df, true)
  | (an, dm, df, false) => mr_fn (mr_oa p.2.1 cv dm df) (fun s => mr_fn (mr_bits (p.2.1 &&& dm)) (fun y => mr_fn (mr_dM s p.2.2 y dm) (fun dm' => mr_fn (mr_dF s p.2.2 y df) (fun df' => mr_mk (an || mr_dR s p.2.2 y) dm' df' (mr_chk L cv dm' df' false)))))
theorem mr_r1_eq (L : List (Nat × Nat × Nat)) (cv : Nat) (an : Bool) (dm df : Nat) (p : Nat × Nat × Nat) : mr_r1 L cv (an, dm, df, false) p = (an || mr_dR (mr_oa p.2.1 cv dm df) p.2.2 (mr_bits (p.2.1 &&& dm)), mr_dM (mr_oa p.2.1 cv dm df) p.2.2 (mr_bits (p.2.1 &&& dm)) dm, mr_dF (mr_oa p.2.1 cv dm df) p.2.2 (mr_bits (p.2.1 &&& dm)) df, mr_chk L cv (mr_dM (mr_oa p.2.1 cv dm df) p.2.2 (mr_bits (p.2.1 &&& dm)) dm) (mr_dF (mr_oa p.2.1 cv dm df) p.2.2 (mr_bits (p.2.1 &&& dm)) df) false) := by
  simp only [mr_r1, mr_fn_eq, mr_mk_eq]
/-- rule two for a pair -/
def mr_r2 (L : List (Nat × Nat × Nat)) (cv dm df : Nat) (pa pb : Nat × Nat × Nat) : mr_Q :=
  mr_fn (mr_oa pa.2.1 cv dm df) (fun f => mr_fn (mr_oa pb.2.1 cv dm df) (fun g => bif !(Nat.beq pa.1 pb.1) && Nat.beq (mr_dn f g) 0 then
    mr_fn (mr_dn g f) (fun s => mr_fn (pb.2.2 + mr_bits (pa.2.1 &&& dm)) (fun x => mr_fn (mr_bits (pb.2.1 &&& dm) + pa.2.2) (fun y =>
      bif Nat.ble (x + 1) y || Nat.ble (y + mr_bits s + 1) x then mr_mk false dm df (mr_chk L cv dm df true)
      else mr_fn (mr_dM s x y dm) (fun dm' => mr_fn (mr_dF s x y df) (fun df' => mr_mk (mr_dR s x y) dm' df' (mr_chk L cv dm' df' false))))))
    else (false, dm, df, false)))
def mr_r2s (L : List (Nat × Nat × Nat)) (cv : Nat) (pa : Nat × Nat × Nat) (t : mr_Q) (pb : Nat × Nat × Nat) : mr_Q := match t with
  | (an, dm, df, true) => (an, dm, df, true)
  | (an, dm, df, false) => match mr_r2 L cv dm df pa pb with
    | (an', dm', df', cl') => (an || an', dm', df', cl')
def mr_one (L : List (Nat × Nat × Nat)) (cv : Nat) (dm df : Nat) (cl : Bool) : mr_Q := L.foldl (mr_r1 L cv) (false, dm, df, cl)
def mr_two (L : List (Nat × Nat × Nat)) (cv : Nat) (dm df : Nat) (cl : Bool) : mr_Q := L.foldl (fun t pa => L.foldl (mr_r2s L cv pa) t) (false, dm, df, cl)
def mr_rnd (L : List (Nat × Nat × Nat)) (cv : Nat) (both : Bool) (t : mr_Q) : mr_Q := match t with
  | (true, dm, df, false) => (match mr_one L cv dm df false with
    | (false, dm', df', false) => bif both then mr_two L cv dm' df' false else (false, dm', df', false)
    | t' => t')
  | t' => t'
def mr_rul (cf : Nat → Nat) (both : Bool) : mr_Q := mr_f3 (mr_E cf 20) (fun L => mr_fn (mr_cov cf 20) (fun cv => mr_it (mr_rnd L cv both) 22 (true, 0, 0, mr_chk L cv 0 0 false)))
theorem mr_rul_eq (cf : Nat → Nat) (both : Bool) : mr_rul cf both = mr_it (mr_rnd (mr_E cf 20) (mr_cov cf 20) both) 22 (true, 0, 0, mr_chk (mr_E cf 20) (mr_cov cf 20) 0 0 false) := by
  unfold mr_rul
  rw [mr_f3_eq, mr_fn_eq]
theorem mr_chk_t {L : List (Nat × Nat × Nat)} {cv dm df : Nat} : mr_chk L cv dm df true = true := by
  unfold mr_chk
  induction L with
  | nil => rfl
  | cons p r ih => exact ih
section
variable {fw fv fg fr fe fm fd ff fk : Int32} {a1 a2 a3 a4 a5 a6 a7 a8 a9 a10 : Nat → Int32}
theorem mr_leftOf {post : Int32 → Prop} {cf : Nat → Nat} {c dm : Nat} (hC : mr_C cf a1) (hN : mr_N a2) (hc : c < 20) (h0 : cf c ≠ 0) (hp : post (nI (cf c - 1) - nI (mr_bits (mr_near c &&& dm)))) : wpX_leftOf post (fw, fv, fg, fr, fe, fm, (nI dm), ff, fk, a1, a2, a3, a4, a5, a6, a7, a8, a9, a10) (nI c) := by
  unfold wpX_leftOf
  dsimp only
  rw [nI_clamp (show c < 2 ^ 31 by omega), hN c hc, mr_clv hC hc h0, mr_and]
  exact ⟨pk_in c 20 hc, pk_in c 20 hc, mr_bitsOf (mr_and_lt (Nat.lt_trans (mr_near_lt c) (by decide))) hp⟩
theorem mr_openAround {post : Int32 → Prop} {c cv dm df : Nat} (hN : mr_N a2) (hc : c < 20) (hp : post (nI (mr_oa (mr_near c) cv dm df))) : wpX_openAround post (fw, (nI cv), fg, fr, fe, fm, (nI dm), (nI df), fk, a1, a2, a3, a4, a5, a6, a7, a8, a9, a10) (nI c) := by
  unfold wpX_openAround
  dsimp only
  rw [nI_clamp (show c < 2 ^ 31 by omega), hN c hc, mr_and, mr_andn, mr_andn]
  exact ⟨pk_in c 20 hc, hp⟩
theorem mr_checkClues {post : St2 → Prop} {cf : Nat → Nat} {cv dm df : Nat} {b : Bool} (hC : mr_C cf a1) (hN : mr_N a2) (hp : post (fw, (nI cv), fg, fr, fe, fm, (nI dm), (nI df), (mr_b (mr_chk (mr_E cf 20) cv dm df b)), a1, a2, a3, a4, a5, a6, a7, a8, a9, a10)) : wpX_checkClues post (fw, (nI cv), fg, fr, fe, fm, (nI dm), (nI df), (mr_b b), a1, a2, a3, a4, a5, a6, a7, a8, a9, a10) := by
  show ∃ n, wX_checkClues_2 post fw (nI cv) fg fr fe fm (nI dm) (nI df) a1 a2 a3 a4 a5 a6 a7 a8 a9 a10 n 0 (mr_b b)
  refine pk_loop (σ := Unit) (fun n i _ => wX_checkClues_2 post fw (nI cv) fg fr fe fm (nI dm) (nI df) a1 a2 a3 a4 a5 a6 a7 a8 a9 a10 n (nI i) (mr_b (mr_chk (mr_E cf i) cv dm df b))) (fun _ _ => True) 20 0 () (by omega) trivial ?_ ?_
  · intro n _ _
    exact pk_le 20 20 (fun _ => hp) (fun z => absurd z (by omega))
  · intro n i _ hi _ hw
    have hw' := hw () trivial
    have ei : (nI i).toNatClampNeg = i := nI_clamp (by omega)
    have h9 := (hC i hi).1
    refine pk_le 20 i (fun z => absurd z (by omega)) (fun _ => ?_)
    rw [ei]
    refine ⟨pk_in i 20 hi, mr_cl hC hi (fun e => ?_) (fun e => ?_)⟩
    · have e2 : mr_chk (mr_E cf (i + 1)) cv dm df b = mr_chk (mr_E cf i) cv dm df b := mr_F_z e
      rw [e2] at hw'
      exact nm_r (nI_1 i) hw'
    · have e2 : mr_chk (mr_E cf (i + 1)) cv dm df b = mr_ck1 cv dm df (mr_chk (mr_E cf i) cv dm df b) (i, mr_near i, cf i - 1) := mr_F_s e
      rw [e2] at hw'
      generalize mr_chk (mr_E cf i) cv dm df b = b' at hw' ⊢
      have b1 := mr_bits_le (mr_near i &&& dm)
      have b2 := mr_bits_le (mr_oa (mr_near i) cv dm df)
      have ho : mr_oa (mr_near i) cv dm df < 2 ^ 31 := Nat.lt_trans (mr_oa_lt (mr_near_lt i)) (by decide)
      unfold mr_ck1 at hw'
      dsimp only at hw'
      refine mr_leftOf hC hN hi e (mr_bz (fun hb => ?_) (fun hb => ?_))
      · subst hb
        refine ek_if (mr_dlt (by omega) (by omega)) (fun z => ?_) (fun z => ?_)
        · rw [mr_ble_t (show cf i - 1 + 1 ≤ mr_bits (mr_near i &&& dm) by omega)] at hw'
          exact nm_r (nI_1 i) hw'
        · rw [mr_ble_f (show mr_bits (mr_near i &&& dm) < cf i - 1 + 1 by omega)] at hw'
          refine mr_openAround hN hi (mr_bitsOf ho (ek_if (mr_dle (by omega) (by omega) (by omega)) (fun y => ?_) (fun y => ?_)))
          · rw [mr_ble_f (show cf i - 1 < mr_bits (mr_near i &&& dm) + mr_bits (mr_oa (mr_near i) cv dm df) + 1 by omega)] at hw'
            exact nm_r (nI_1 i) hw'
          · rw [mr_ble_t (show mr_bits (mr_near i &&& dm) + mr_bits (mr_oa (mr_near i) cv dm df) + 1 ≤ cf i - 1 by omega)] at hw'
            exact nm_r (nI_1 i) hw'
      · subst hb
        exact nm_r (nI_1 i) hw'
theorem mr_decideBy {post : Int32 → St2 → Prop} {s x y dm df : Nat} (hs : s < 2 ^ 20) (hx : x < 2 ^ 28) (hy : y < 2 ^ 28) (hp : post (mr_b (mr_dR s x y)) (fw, fv, fg, fr, fe, fm, (nI (mr_dM s x y dm)), (nI (mr_dF s x y df)), fk, a1, a2, a3, a4, a5, a6, a7, a8, a9, a10)) : wpX_decideBy post (fw, fv, fg, fr, fe, fm, (nI dm), (nI df), fk, a1, a2, a3, a4, a5, a6, a7, a8, a9, a10) (nI s) (nI x - nI y) := by
  have hs' : s < 2 ^ 31 := Nat.lt_trans hs (by decide)
  have hb := mr_bits_le s
  unfold wpX_decideBy wX_decideBy_12 wX_decideBy_13 wX_decideBy_31 wX_decideBy_32 wX_decideBy_52 wX_decideBy_74
  dsimp only
  unfold mr_dR mr_dM mr_dF at hp
  rw [mr_or, mr_or]
  refine pk_eq s 0 (fun e => ?_) (fun e => ?_)
  · rw [mr_beq_t e] at hp
    exact br_t (by rw [e]; rfl) (br_t rfl (br_t rfl (br_t rfl (br_t rfl hp))))
  · rw [mr_beq_f e] at hp
    have ne : ¬ nI s = 0 := nI_ne0 (by omega) hs'
    refine ek_if (mr_dz (by omega) (by omega)) (fun e1 => br_f ne (mr_bitsOf hs' (ek_if (mr_deq (by omega) (by omega) (by omega)) (fun e2 => ?_) (fun e2 => ?_)))) (fun e1 => br_f ne (mr_bitsOf hs' (ek_if (mr_deq (by omega) (by omega) (by omega)) (fun e2 => ?_) (fun e2 => ?_))))
    · have := mr_bits_pos e
      omega
    · rw [mr_beq_t e1, mr_beq_f e2] at hp
      exact br_f (by decide) (br_t rfl (br_f (by decide) hp))
    · rw [mr_beq_f e1, mr_beq_t e2] at hp
      exact br_t rfl (br_f (by decide) (br_t rfl (br_f (by decide) hp)))
    · rw [mr_beq_f e1, mr_beq_f e2] at hp
      exact br_t rfl (br_t rfl (br_t rfl (br_t rfl hp)))
theorem mr_r1_mono {cf : Nat → Nat} {L : List (Nat × Nat × Nat)} {cv i : Nat} {t0 : mr_Q} {an : Bool} {dm df : Nat} (h : (mr_E cf i).foldl (mr_r1 L cv) t0 = (an, dm, df, true)) : ∀ k, (mr_E cf (i + k)).foldl (mr_r1 L cv) t0 = (an, dm, df, true) := by
  intro k
  induction k with
  | zero => exact h
  | succ k ih =>
    by_cases e : cf (i + k) = 0
    · rw [← Nat.add_assoc, mr_F_z e, ih]
    · rw [← Nat.add_assoc, mr_F_s e, ih]
      rfl
theorem mr_ruleOne {post : Int32 → St2 → Prop} {cf : Nat → Nat} {cv dm df : Nat} {cl : Bool} (hC : mr_C cf a1) (hN : mr_N a2) (hp : ∀ an dm' df' cl', mr_one (mr_E cf 20) cv dm df cl = (an, dm', df', cl') → post (mr_b an) (fw, (nI cv), fg, fr, fe, fm, (nI dm'), (nI df'), (mr_b cl'), a1, a2, a3, a4, a5, a6, a7, a8, a9, a10)) : wpX_ruleOne post (fw, (nI cv), fg, fr, fe, fm, (nI dm), (nI df), (mr_b cl), a1, a2, a3, a4, a5, a6, a7, a8, a9, a10) := by
  show ∃ n, wX_ruleOne_4 post n 0 0 fw (nI cv) fg fr fe fm (nI dm) (nI df) (mr_b cl) a1 a2 a3 a4 a5 a6 a7 a8 a9 a10
  refine pk_loop (σ := mr_Q) (fun n i t => wX_ruleOne_4 post n (mr_b t.1) (nI i) fw (nI cv) fg fr fe fm (nI t.2.1) (nI t.2.2.1) (mr_b t.2.2.2) a1 a2 a3 a4 a5 a6 a7 a8 a9 a10) (fun i t => (mr_E cf i).foldl (mr_r1 (mr_E cf 20) cv) (false, dm, df, cl) = t) 20 0 (false, dm, df, cl) (by omega) rfl ?_ ?_
  · intro n t ht
    obtain ⟨an, dm', df', cl'⟩ := t
    exact pk_le 20 20 (fun _ => ⟨mr_nb _, hp an dm' df' cl' ht⟩) (fun z => absurd z (by omega))
  · intro n i t hi ht hw
    obtain ⟨an, dm', df', cl'⟩ := t
    dsimp only
    have ei : (nI i).toNatClampNeg = i := nI_clamp (by omega)
    have h9 := (hC i hi).1
    refine pk_le 20 i (fun z => absurd z (by omega)) (fun _ => ?_)
    refine mr_bz (fun hb => ⟨pk_in i 20 hi, ?_⟩) (fun hb => ⟨mr_nb _, ?_⟩)
    · subst hb
      rw [ei]
      refine mr_cl hC hi (fun e => ?_) (fun e => ?_)
      · exact nm_r (nI_1 i) (hw (an, dm', df', false) (by rw [mr_F_z e]; exact ht))
      · have b1 := mr_bits_le (mr_near i &&& dm')
        have hw' := hw _ (by rw [mr_F_s e, ht, mr_r1_eq])
        refine mr_openAround hN hi (mr_leftOf hC hN hi e (mr_decideBy (mr_oa_lt (mr_near_lt i)) (by omega) (by omega) ?_))
        dsimp only at hw' ⊢
        unfold wX_ruleOne_50 wX_ruleOne_55
        generalize mr_dR (mr_oa (mr_near i) cv dm' df') (cf i - 1) (mr_bits (mr_near i &&& dm')) = rb at hw' ⊢
        refine mr_bz (fun h1 => mr_bz (fun h2 => ?_) (fun h2 => ?_)) (fun h1 => ?_)
        · subst h1 h2
          exact mr_checkClues (b := false) hC hN (nm_r (nI_1 i) hw')
        · subst h1 h2
          exact mr_checkClues (b := false) hC hN (nm_r (nI_1 i) hw')
        · subst h1
          exact mr_checkClues (b := false) hC hN (nm_r (nI_1 i) hw')
    · subst hb
      have h2 := mr_r1_mono ht (20 - i)
      rw [show i + (20 - i) = 20 by omega] at h2
      exact hp an dm' df' true h2
theorem mr_ruleTwoFor {post : Int32 → St2 → Prop} {cf : Nat → Nat} {cv dm df a b : Nat} (hC : mr_C cf a1) (hN : mr_N a2) (ha : a < 20) (hb : b < 20) (ha0 : cf a ≠ 0) (hb0 : cf b ≠ 0) (hp : ∀ an dm' df' cl', mr_r2 (mr_E cf 20) cv dm df (a, mr_near a, cf a - 1) (b, mr_near b, cf b - 1) = (an, dm', df', cl') → post (mr_b an) (fw, (nI cv), fg, fr, fe, fm, (nI dm'), (nI df'), (mr_b cl'), a1, a2, a3, a4, a5, a6, a7, a8, a9, a10)) : wpX_ruleTwoFor post (fw, (nI cv), fg, fr, fe, fm, (nI dm), (nI df), (mr_b false), a1, a2, a3, a4, a5, a6, a7, a8, a9, a10) (nI a) (nI b) := by
  unfold wpX_ruleTwoFor
  dsimp only
  unfold mr_r2 at hp
  rw [mr_fn_eq, mr_fn_eq] at hp
  dsimp only at hp
  have h9a := (hC a ha).1
  have h9b := (hC b hb).1
  have hfa : mr_oa (mr_near a) cv dm df < 2 ^ 20 := mr_oa_lt (mr_near_lt a)
  have hfb : mr_oa (mr_near b) cv dm df < 2 ^ 20 := mr_oa_lt (mr_near_lt b)
  have ba := mr_bits_le (mr_near a &&& dm)
  have bb := mr_bits_le (mr_near b &&& dm)
  refine mr_openAround hN ha (mr_openAround hN hb (nm_r (mr_andn _ _) (pk_eq a b (fun e => ?_) (fun e => ?_))))
  · rw [mr_beq_t e] at hp
    exact hp false dm df false rfl
  · rw [mr_beq_f e] at hp
    refine mr_openAround hN hb ?_
    generalize mr_oa (mr_near a) cv dm df = f at hp hfa ⊢
    generalize mr_oa (mr_near b) cv dm df = g at hp hfb ⊢
    rw [mr_andn]
    have hfg : mr_dn f g < 2 ^ 31 := Nat.lt_trans (mr_dn_lt hfa) (by decide)
    refine pk_eq (mr_dn f g) 0 (fun e2 => ?_) (fun e2 => ?_)
    · rw [mr_beq_t e2] at hp
      have hp' := hp
      simp only [Bool.not_false, Bool.true_and, cond_true, mr_fn_eq, mr_mk_eq] at hp'
      refine mr_leftOf hC hN hb hb0 (mr_leftOf hC hN ha ha0 (nm_r (mr_dd _ _ _ _) ?_))
      have hs : mr_dn g f < 2 ^ 20 := mr_dn_lt hfb
      have hs31 : mr_dn g f < 2 ^ 31 := Nat.lt_trans hs (by decide)
      have bs := mr_bits_le (mr_dn g f)
      have hx : cf b - 1 + mr_bits (mr_near a &&& dm) < 2 ^ 28 := by omega
      have hy : mr_bits (mr_near b &&& dm) + (cf a - 1) < 2 ^ 28 := by omega
      generalize cf b - 1 + mr_bits (mr_near a &&& dm) = x at hp' hx ⊢
      generalize mr_bits (mr_near b &&& dm) + (cf a - 1) = y at hp' hy ⊢
      generalize mr_dn g f = s at hp' hs hs31 bs ⊢
      unfold wX_ruleTwoFor_74 wX_ruleTwoFor_79 wX_ruleTwoFor_104 wX_ruleTwoFor_105
      refine br_t rfl (ek_if (mr_dlt (by omega) (by omega)) (fun z => ?_) (fun z => mr_bitsOf hs31 (ek_if (mr_dle (by omega) (by omega) (by omega)) (fun w => ?_) (fun w => ?_))))
      · rw [mr_ble_t (show x + 1 ≤ y by omega)] at hp'
        exact ⟨mr_nb true, mr_fb true, br_f (by decide) (mr_checkClues (b := true) hC hN ⟨mr_nb false, hp' false dm df _ rfl⟩)⟩
      · rw [mr_ble_f (show y < x + 1 by omega), mr_ble_f (show x < y + mr_bits s + 1 by omega)] at hp'
        refine ⟨mr_nb false, mr_fb false, br_t rfl (mr_decideBy hs hx hy ?_)⟩
        have hq := hp' _ _ _ _ rfl
        generalize mr_dR s x y = rb at hq ⊢
        refine mr_bz (fun h1 => ?_) (fun h1 => ?_)
        · subst h1
          exact mr_checkClues (b := false) hC hN ⟨mr_nb false, hq⟩
        · subst h1
          exact mr_checkClues (b := false) hC hN ⟨mr_nb true, hq⟩
      · rw [mr_ble_f (show y < x + 1 by omega), mr_ble_t (show y + mr_bits s + 1 ≤ x by omega)] at hp'
        exact ⟨mr_nb true, mr_fb true, br_f (by decide) (mr_checkClues (b := true) hC hN ⟨mr_nb false, hp' false dm df _ rfl⟩)⟩
    · rw [mr_beq_f e2] at hp
      exact hp false dm df false rfl
end
end
section
/-! rule two, both rules till nothing changes -/
theorem mr_r2s_t (L : List (Nat × Nat × Nat)) (cv : Nat) (pa pb : Nat × Nat × Nat) (an : Bool) (dm df : Nat) : mr_r2s L cv pa (an, dm, df, true) pb = (an, dm, df, true) := rfl
theorem mr_r2s_f {L : List (Nat × Nat × Nat)} {cv : Nat} {pa pb : Nat × Nat × Nat} {an an' cl' : Bool} {dm df dm' df' : Nat} (h : mr_r2 L cv dm df pa pb = (an', dm', df', cl')) : mr_r2s L cv pa (an, dm, df, false) pb = (an || an', dm', df', cl') := by
  simp only [mr_r2s, h]
def mr_stop (t : mr_Q) : Prop := t.1 = false ∨ t.2.2.2 = true
theorem mr_rnd_stop {L : List (Nat × Nat × Nat)} {cv : Nat} {both : Bool} {t : mr_Q} (h : mr_stop t) : mr_rnd L cv both t = t := by
  obtain ⟨an, dm, df, cl⟩ := t
  cases an
  · rfl
  · cases cl
    · rcases h with h | h
      · exact Bool.noConfusion h
      · exact Bool.noConfusion h
    · rfl
theorem mr_it_stop {L : List (Nat × Nat × Nat)} {cv : Nat} {both : Bool} {t0 t : mr_Q} {i : Nat} (hs : mr_stop t) (h : mr_it (mr_rnd L cv both) i t0 = t) : ∀ k, mr_it (mr_rnd L cv both) (i + k) t0 = t := by
  intro k
  induction k with
  | zero => exact h
  | succ k ih =>
    show mr_rnd L cv both (mr_it (mr_rnd L cv both) (i + k) t0) = t
    rw [ih, mr_rnd_stop hs]
section
variable {fw fv fg fr fe fm fd ff fk : Int32} {a1 a2 a3 a4 a5 a6 a7 a8 a9 a10 : Nat → Int32}
theorem mr_rt12z {post : Int32 → St2 → Prop} {J : Int32 → Int32 → Int32 → Int32 → Int32 → Int32 → Int32 → Int32 → Int32 → Int32 → Int32 → (Nat → Int32) → (Nat → Int32) → (Nat → Int32) → (Nat → Int32) → (Nat → Int32) → (Nat → Int32) → (Nat → Int32) → (Nat → Int32) → (Nat → Int32) → (Nat → Int32) → Prop} {cf : Nat → Nat} {a : Nat} {x1 : Int32} (hC : mr_C cf a1) (ha : a < 20) (h0 : cf a = 0) (hp : J x1 (nI (a + 1)) fw fv fg fr fe fm fd ff fk a1 a2 a3 a4 a5 a6 a7 a8 a9 a10) : ∃ n, wX_ruleTwo_12 post J (nI a) n x1 0 fw fv fg fr fe fm fd ff fk a1 a2 a3 a4 a5 a6 a7 a8 a9 a10 := by
  refine pk_loop (σ := Unit) (fun n i _ => wX_ruleTwo_12 post J (nI a) n x1 (nI i) fw fv fg fr fe fm fd ff fk a1 a2 a3 a4 a5 a6 a7 a8 a9 a10) (fun _ _ => True) 20 0 () (by omega) trivial ?_ ?_
  · intro n _ _
    exact pk_le 20 20 (fun _ => nm_r (nI_1 a) hp) (fun z => absurd z (by omega))
  · intro n i _ hi _ hw
    refine pk_le 20 i (fun z => absurd z (by omega)) (fun _ => ?_)
    rw [nI_clamp (show a < 2 ^ 31 by omega)]
    exact ⟨pk_in a 20 ha, mr_cl hC ha (fun _ => nm_r (nI_1 i) (hw () trivial)) (fun z => absurd h0 z)⟩
theorem mr_rt12s {post : Int32 → St2 → Prop} {J : Int32 → Int32 → Int32 → Int32 → Int32 → Int32 → Int32 → Int32 → Int32 → Int32 → Int32 → (Nat → Int32) → (Nat → Int32) → (Nat → Int32) → (Nat → Int32) → (Nat → Int32) → (Nat → Int32) → (Nat → Int32) → (Nat → Int32) → (Nat → Int32) → (Nat → Int32) → Prop} {cf : Nat → Nat} {cv a : Nat} {t : mr_Q} (hC : mr_C cf a1) (hN : mr_N a2) (ha : a < 20) (h0 : cf a ≠ 0)
    (hp : ∀ t' : mr_Q, (mr_E cf 20).foldl (mr_r2s (mr_E cf 20) cv (a, mr_near a, cf a - 1)) t = t' → J (mr_b t'.1) (nI (a + 1)) fw (nI cv) fg fr fe fm (nI t'.2.1) (nI t'.2.2.1) (mr_b t'.2.2.2) a1 a2 a3 a4 a5 a6 a7 a8 a9 a10) : ∃ n, wX_ruleTwo_12 post J (nI a) n (mr_b t.1) 0 fw (nI cv) fg fr fe fm (nI t.2.1) (nI t.2.2.1) (mr_b t.2.2.2) a1 a2 a3 a4 a5 a6 a7 a8 a9 a10 := by
  refine pk_loop (σ := mr_Q) (fun n i t' => wX_ruleTwo_12 post J (nI a) n (mr_b t'.1) (nI i) fw (nI cv) fg fr fe fm (nI t'.2.1) (nI t'.2.2.1) (mr_b t'.2.2.2) a1 a2 a3 a4 a5 a6 a7 a8 a9 a10) (fun i t' => (mr_E cf i).foldl (mr_r2s (mr_E cf 20) cv (a, mr_near a, cf a - 1)) t = t') 20 0 t (by omega) rfl ?_ ?_
  · intro n t' ht
    exact pk_le 20 20 (fun _ => nm_r (nI_1 a) (hp t' ht)) (fun z => absurd z (by omega))
  · intro n i t' hi ht hw
    obtain ⟨an, dm, df, cl⟩ := t'
    dsimp only
    have ei : (nI i).toNatClampNeg = i := nI_clamp (by omega)
    have ea : (nI a).toNatClampNeg = a := nI_clamp (by omega)
    refine pk_le 20 i (fun z => absurd z (by omega)) (fun _ => ?_)
    rw [ei, ea]
    refine ⟨pk_in a 20 ha, mr_cl hC ha (fun z => absurd z h0) (fun _ => ⟨pk_in i 20 hi, mr_cl hC hi (fun e => ?_) (fun e => ?_)⟩)⟩
    · exact nm_r (nI_1 i) (hw (an, dm, df, cl) (by rw [mr_F_z e]; exact ht))
    · refine mr_bz (fun hb => ?_) (fun hb => ?_)
      · subst hb
        refine mr_ruleTwoFor hC hN ha hi h0 e (fun an' dm' df' cl' h2 => ?_)
        have hw' := hw (an || an', dm', df', cl') (by rw [mr_F_s e, ht, mr_r2s_f h2])
        dsimp only at hw' ⊢
        refine mr_bz (fun h1 => mr_bz (fun h2 => ?_) (fun h2 => ?_)) (fun h1 => ?_)
        · subst h1 h2
          exact nm_r (nI_1 i) hw'
        · subst h1 h2
          exact nm_r (nI_1 i) hw'
        · subst h1
          exact nm_r (nI_1 i) hw'
      · subst hb
        exact nm_r (nI_1 i) (hw (an, dm, df, true) (by rw [mr_F_s e, ht, mr_r2s_t]))
theorem mr_ruleTwo {post : Int32 → St2 → Prop} {cf : Nat → Nat} {cv dm df : Nat} {cl : Bool} (hC : mr_C cf a1) (hN : mr_N a2) (hp : ∀ an dm' df' cl', mr_two (mr_E cf 20) cv dm df cl = (an, dm', df', cl') → post (mr_b an) (fw, (nI cv), fg, fr, fe, fm, (nI dm'), (nI df'), (mr_b cl'), a1, a2, a3, a4, a5, a6, a7, a8, a9, a10)) : wpX_ruleTwo post (fw, (nI cv), fg, fr, fe, fm, (nI dm), (nI df), (mr_b cl), a1, a2, a3, a4, a5, a6, a7, a8, a9, a10) := by
  show ∃ n, wX_ruleTwo_4 post n 0 0 fw (nI cv) fg fr fe fm (nI dm) (nI df) (mr_b cl) a1 a2 a3 a4 a5 a6 a7 a8 a9 a10
  refine pk_loop (σ := mr_Q) (fun n i t => wX_ruleTwo_4 post n (mr_b t.1) (nI i) fw (nI cv) fg fr fe fm (nI t.2.1) (nI t.2.2.1) (mr_b t.2.2.2) a1 a2 a3 a4 a5 a6 a7 a8 a9 a10) (fun i t => (mr_E cf i).foldl (fun t pa => (mr_E cf 20).foldl (mr_r2s (mr_E cf 20) cv pa) t) (false, dm, df, cl) = t) 20 0 (false, dm, df, cl) (by omega) rfl ?_ ?_
  · intro n t ht
    obtain ⟨an, dm', df', cl'⟩ := t
    exact pk_le 20 20 (fun _ => ⟨mr_nb _, hp an dm' df' cl' ht⟩) (fun z => absurd z (by omega))
  · intro n i t hi ht hw
    refine pk_le 20 i (fun z => absurd z (by omega)) (fun _ => ?_)
    by_cases e : cf i = 0
    · exact mr_rt12z hC hi e (hw t (by rw [mr_F_z e]; exact ht))
    · exact mr_rt12s hC hN hi e (fun t' h' => hw t' (by rw [mr_F_s e, ht]; exact h'))
theorem mr_applyRules {post : St2 → Prop} {cf : Nat → Nat} {both : Bool} (hC : mr_C cf a1) (hN : mr_N a2) (hp : post (fw, (nI (mr_cov cf 20)), fg, fr, fe, fm, (nI (mr_rul cf both).2.1), (nI (mr_rul cf both).2.2.1), (mr_b (mr_rul cf both).2.2.2), a1, a2, a3, a4, a5, a6, a7, a8, a9, a10)) : wpX_applyRules post (fw, (nI (mr_cov cf 20)), fg, fr, fe, fm, fd, ff, fk, a1, a2, a3, a4, a5, a6, a7, a8, a9, a10) (mr_b both) := by
  unfold wpX_applyRules
  dsimp only
  rw [mr_rul_eq] at hp
  generalize mr_cov cf 20 = cv at hp ⊢
  refine mr_checkClues (dm := 0) (df := 0) (b := false) hC hN ?_
  dsimp only
  refine pk_loop (σ := mr_Q) (fun n i t => wX_applyRules_23 post (mr_b both) n (mr_b t.1) (nI i) fw (nI cv) fg fr fe fm (nI t.2.1) (nI t.2.2.1) (mr_b t.2.2.2) a1 a2 a3 a4 a5 a6 a7 a8 a9 a10) (fun i t => mr_it (mr_rnd (mr_E cf 20) cv both) i (true, 0, 0, mr_chk (mr_E cf 20) cv 0 0 false) = t) 22 0 (true, 0, 0, mr_chk (mr_E cf 20) cv 0 0 false) (by omega) rfl ?_ ?_
  · intro n t ht
    rw [ht] at hp
    exact pk_le 22 22 (fun _ => hp) (fun z => absurd z (by omega))
  · intro n i t hi ht hw
    have hstop : mr_stop t → post (fw, (nI cv), fg, fr, fe, fm, (nI t.2.1), (nI t.2.2.1), (mr_b t.2.2.2), a1, a2, a3, a4, a5, a6, a7, a8, a9, a10) := fun hs => by
      have h2 := mr_it_stop hs ht (22 - i)
      rw [show i + (22 - i) = 22 by omega] at h2
      rw [h2] at hp
      exact hp
    obtain ⟨an, dm, df, cl⟩ := t
    dsimp only at hstop ⊢
    refine pk_le 22 i (fun z => absurd z (by omega)) (fun _ => ?_)
    refine mr_bz (fun h1 => hstop (Or.inl h1)) (fun h1 => mr_bz (fun h2 => ?_) (fun h2 => hstop (Or.inr h2)))
    subst h1 h2
    have hit : mr_it (mr_rnd (mr_E cf 20) cv both) (i + 1) (true, 0, 0, mr_chk (mr_E cf 20) cv 0 0 false) = mr_rnd (mr_E cf 20) cv both (true, dm, df, false) := by
      rw [← ht]
      rfl
    refine mr_ruleOne hC hN (fun an' dm' df' cl' h3 => ?_)
    dsimp only
    have hr : ¬ (both = true ∧ an' = false ∧ cl' = false) → mr_rnd (mr_E cf 20) cv both (true, dm, df, false) = (an', dm', df', cl') := fun hn => by
      simp only [mr_rnd, h3]
      cases an' <;> cases cl' <;> cases both <;> first | rfl | exact absurd ⟨rfl, rfl, rfl⟩ hn
    refine mr_bz (fun hb => ?_) (fun hb => ?_)
    · exact nm_r (nI_1 i) (hw (an', dm', df', cl') (by rw [hit, hr (fun z => by rw [hb] at z; exact absurd z.1 (by decide))]))
    · refine mr_bz (fun h4 => mr_bz (fun h5 => ?_) (fun h5 => ?_)) (fun h4 => ?_)
      · subst hb h4 h5
        refine mr_ruleTwo hC hN (fun an2 dm2 df2 cl2 h6 => ?_)
        exact nm_r (nI_1 i) (hw (an2, dm2, df2, cl2) (by
          rw [hit, ← h6]
          simp only [mr_rnd, h3]
          rfl))
      · exact nm_r (nI_1 i) (hw (an', dm', df', cl') (by rw [hit, hr (fun z => by rw [h5] at z; exact absurd z.2.2 (by decide))]))
      · exact nm_r (nI_1 i) (hw (an', dm', df', cl') (by rw [hit, hr (fun z => by rw [h4] at z; exact absurd z.2.1 (by decide))]))
/-- what simple and paired answer -/
def mr_cnt (t : mr_Q) : Int32 := bif t.2.2.2 then -3 else nI (mr_bits (t.2.1 ||| t.2.2.1))
def mr_dcd (c : Nat) (t : mr_Q) : Int32 := bif t.2.2.2 then -3 else bif t.2.1.testBit c then 1 else bif t.2.2.1.testBit c then 0 else -2
theorem mr_decidedCount {post : Int32 → Prop} {t : mr_Q} (hb : t.2.1 ||| t.2.2.1 < 2 ^ 31) (hp : post (mr_cnt t)) : wpX_decidedCount post (fw, fv, fg, fr, fe, fm, (nI t.2.1), (nI t.2.2.1), (mr_b t.2.2.2), a1, a2, a3, a4, a5, a6, a7, a8, a9, a10) := by
  unfold wpX_decidedCount
  dsimp only
  unfold mr_cnt at hp
  rw [mr_or]
  refine mr_bz (fun e => mr_bitsOf hb ?_) (fun e => ?_)
  · rw [e] at hp
    exact hp
  · rw [e] at hp
    exact hp
theorem mr_simple {post : Int32 → St2 → Prop} {u : St2} {cf : Nat → Nat} {wt : Nat} (h : mr_R cf wt u) (hb : (mr_rul cf false).2.1 ||| (mr_rul cf false).2.2.1 < 2 ^ 31) (H : ∀ u', mr_R cf wt u' → post (mr_cnt (mr_rul cf false)) u') : wpX_simple post u := by
  obtain ⟨fw, fv, fg, fr, fe, fm, fd, ff, fk, a1, a2, a3, a4, a5, a6, a7, a8, a9, a10⟩ := u
  obtain ⟨rfl, hwt, rfl, hC, hN, h8⟩ := h
  unfold wpX_simple
  dsimp only
  exact mr_applyRules (both := false) hC hN (mr_decidedCount hb (H _ (mr_R_mk hwt hC hN h8)))
theorem mr_paired {post : Int32 → St2 → Prop} {u : St2} {cf : Nat → Nat} {wt : Nat} (h : mr_R cf wt u) (hb : (mr_rul cf true).2.1 ||| (mr_rul cf true).2.2.1 < 2 ^ 31) (H : ∀ u', mr_R cf wt u' → post (mr_cnt (mr_rul cf true)) u') : wpX_paired post u := by
  obtain ⟨fw, fv, fg, fr, fe, fm, fd, ff, fk, a1, a2, a3, a4, a5, a6, a7, a8, a9, a10⟩ := u
  obtain ⟨rfl, hwt, rfl, hC, hN, h8⟩ := h
  unfold wpX_paired
  dsimp only
  exact mr_applyRules (both := true) hC hN (mr_decidedCount hb (H _ (mr_R_mk hwt hC hN h8)))
theorem mr_decided {post : Int32 → St2 → Prop} {u : St2} {cf : Nat → Nat} {wt : Nat} (c : Nat) {x : Int32} (h : mr_R cf wt u) (hc : c < 20) (hb : (mr_rul cf true).2.1 ||| (mr_rul cf true).2.2.1 < 2 ^ 31) (H : ∀ u', mr_R cf wt u' → post (mr_dcd c (mr_rul cf true)) u') (hx : x = nI c := by rfl) : wpX_decided post u x := by
  subst hx
  obtain ⟨fw, fv, fg, fr, fe, fm, fd, ff, fk, a1, a2, a3, a4, a5, a6, a7, a8, a9, a10⟩ := u
  obtain ⟨rfl, hwt, rfl, hC, hN, h8⟩ := h
  unfold wpX_decided
  dsimp only
  have P := H _ (mr_R_mk (fg := fg) (fr := fr) (fe := fe) (fm := fm) (fd := nI (mr_rul cf true).2.1) (ff := nI (mr_rul cf true).2.2.1) (fk := mr_b (mr_rul cf true).2.2.2) (a3 := a3) (a4 := a4) (a5 := a5) (a6 := a6) (a7 := a7) (a9 := a9) (a10 := a10) hwt hC hN h8)
  refine mr_badCell hc (br_t rfl (mr_applyRules (both := true) hC hN ?_))
  dsimp only
  generalize mr_rul cf true = t at hb P ⊢
  have l1 : t.2.1 < 2 ^ 31 := Nat.lt_of_le_of_lt Nat.left_le_or hb
  have l2 : t.2.2.1 < 2 ^ 31 := Nat.lt_of_le_of_lt Nat.right_le_or hb
  unfold mr_dcd at P
  refine mr_bz (fun e => mr_hasE l1 (by omega) (mr_bz (fun e1 => mr_hasE l2 (by omega) (mr_bz (fun e2 => ?_) (fun e2 => ?_))) (fun e1 => ?_))) (fun e => ?_)
  · rw [e, e1, e2] at P
    rw [e]
    exact P
  · rw [e, e1, e2] at P
    rw [e]
    exact P
  · rw [e, e1] at P
    rw [e]
    exact P
  · rw [e] at P
    rw [e]
    exact P
/-- arguments out of range -/
theorem mr_bad {post : Int32 → Prop} {x : Int32} (h : x < 0 ∨ ¬ x < 0 ∧ ¬ x < 20) (hp : post 1) : wpX_badCell post (fw, fv, fg, fr, fe, fm, fd, ff, fk, a1, a2, a3, a4, a5, a6, a7, a8, a9, a10) x := by
  rcases h with h | ⟨h1, h2⟩
  · exact br_t h hp
  · exact br_f h1 (br_f h2 hp)
end
theorem mr_coverBad {post : Int32 → St2 → Prop} {u : St2} {x : Int32} (h : x < 0 ∨ ¬ x < 0 ∧ ¬ x < 20) (H : post (-1) u) : wpX_cover post u x := by
  obtain ⟨fw, fv, fg, fr, fe, fm, fd, ff, fk, a1, a2, a3, a4, a5, a6, a7, a8, a9, a10⟩ := u
  unfold wpX_cover
  exact mr_bad h (br_f (by decide) H)
theorem mr_clueBad {post : Int32 → Prop} {u : St2} {x : Int32} (h : x < 0 ∨ ¬ x < 0 ∧ ¬ x < 20) (H : post (-1)) : wpX_clue post u x := by
  obtain ⟨fw, fv, fg, fr, fe, fm, fd, ff, fk, a1, a2, a3, a4, a5, a6, a7, a8, a9, a10⟩ := u
  unfold wpX_clue
  exact mr_bad h (br_f (by decide) H)
theorem mr_groupOfBad {post : Int32 → St2 → Prop} {u : St2} {x : Int32} (h : x < 0 ∨ ¬ x < 0 ∧ ¬ x < 20) (H : post (-1) u) : wpX_groupOf post u x := by
  obtain ⟨fw, fv, fg, fr, fe, fm, fd, ff, fk, a1, a2, a3, a4, a5, a6, a7, a8, a9, a10⟩ := u
  unfold wpX_groupOf
  exact mr_bad h (br_f (by decide) H)
theorem mr_minedBad {post : Int32 → St2 → Prop} {u : St2} {x : Int32} (h : x < 0 ∨ ¬ x < 0 ∧ ¬ x < 20) (H : post (-1) u) : wpX_mined post u x := by
  obtain ⟨fw, fv, fg, fr, fe, fm, fd, ff, fk, a1, a2, a3, a4, a5, a6, a7, a8, a9, a10⟩ := u
  unfold wpX_mined
  exact mr_bad h (br_f (by decide) H)
theorem mr_cluesBad {post : Int32 → St2 → Prop} {u : St2} {x : Int32} (h : x < 0 ∨ ¬ x < 0 ∧ ¬ x < 20) (H : post (-1) u) : wpX_clues post u x := by
  obtain ⟨fw, fv, fg, fr, fe, fm, fd, ff, fk, a1, a2, a3, a4, a5, a6, a7, a8, a9, a10⟩ := u
  unfold wpX_clues
  exact mr_bad h (br_f (by decide) H)
theorem mr_decidedBad {post : Int32 → St2 → Prop} {u : St2} {x : Int32} (h : x < 0 ∨ ¬ x < 0 ∧ ¬ x < 20) (H : post (-1) u) : wpX_decided post u x := by
  obtain ⟨fw, fv, fg, fr, fe, fm, fd, ff, fk, a1, a2, a3, a4, a5, a6, a7, a8, a9, a10⟩ := u
  unfold wpX_decided
  exact mr_bad h (br_f (by decide) H)
theorem mr_totalBad {post : Int32 → St2 → Prop} {u : St2} {x : Int32} (h : x < (-1) ∨ ¬ x < (-1) ∧ ¬ x ≤ 20) (H : post (-1) u) : wpX_total post u x := by
  obtain ⟨fw, fv, fg, fr, fe, fm, fd, ff, fk, a1, a2, a3, a4, a5, a6, a7, a8, a9, a10⟩ := u
  rcases h with h | ⟨h1, h2⟩
  · exact br_t h H
  · exact br_f h1 (br_f h2 H)
end
section
/-! the law's own choose; what the pure picture answers -/
def mr_lcF (N k : Nat) : Nat → Nat
  | 0 => bif Nat.ble k N then 1 else 0
  | i + 1 => mr_fn (mr_lcF N k i) (fun r => bif Nat.beq r 0 || Nat.ble k i then r else r * (N - i) / (i + 1))
theorem mr_lc_s (N k i : Nat) : mr_lcF N k (i + 1) = (bif Nat.beq (mr_lcF N k i) 0 || Nat.ble k i then mr_lcF N k i else mr_lcF N k i * (N - i) / (i + 1)) := by rw [mr_lcF, mr_fn_eq]
theorem mr_lc_ch : ∀ N, N < 21 → ∀ k, k < 21 → mr_lcF N k 20 = mr_ch N k := by decide +kernel
theorem mr_lc_lt : ∀ N, N < 21 → ∀ k, k < 21 → ∀ i, i < 21 → mr_lcF N k i < 2 ^ 20 := by decide +kernel
theorem mr_lc_0 {N k : Nat} (h : N < k) : ∀ i, mr_lcF N k i = 0 := by
  intro i
  induction i with
  | zero => rw [mr_lcF, mr_ble_f h]; rfl
  | succ i ih => rw [mr_lc_s, ih]; rfl
theorem mr_chooseZ {post : Int32 → Prop} {x y : Int32} (hp : post 0) : ∃ n, wL_choose_17 post x y n 0 0 :=
  pk_loop (σ := Unit) (fun n i _ => wL_choose_17 post x y n 0 (nI i)) (fun _ _ => True) 20 0 () (by omega) trivial
    (fun n _ _ => pk_le 20 20 (fun _ => hp) (fun z => absurd z (by omega)))
    (fun n i _ hi _ hw => pk_le 20 i (fun z => absurd z (by omega)) (fun _ => br_t (by decide) (nm_r (nI_1 i) (hw () trivial))))
theorem mr_chooseNeg {post : Int32 → Prop} {x y : Int32} (hy : y < 0) (hp : post 0) : wpL_choose post () x y := br_t hy (mr_chooseZ hp)
theorem mr_choose {post : Int32 → Prop} {N k : Nat} {x y : Int32} (hN : N ≤ 20) (hk : k ≤ 20) (hp : post (nI (mr_ch N k))) (hx : x = nI N := by rfl) (hy : y = nI k := by rfl) : wpL_choose post () x y := by
  subst hx hy
  rw [← mr_lc_ch N (by omega) k (by omega)] at hp
  refine br_f (nI_pos (by omega)) (pk_le k N (fun h => ?_) (fun h => ?_))
  · have h0 : mr_lcF N k 0 = 1 := by rw [mr_lcF, mr_ble_t h]; rfl
    have go : ∃ n, wL_choose_17 post (nI N) (nI k) n (nI (mr_lcF N k 0)) (nI 0) := by
      refine pk_loop (σ := Unit) (fun n i _ => wL_choose_17 post (nI N) (nI k) n (nI (mr_lcF N k i)) (nI i)) (fun _ _ => True) 20 0 () (by omega) trivial ?_ ?_
      · intro n _ _
        exact pk_le 20 20 (fun _ => hp) (fun z => absurd z (by omega))
      · intro n i _ hi _ hw
        have hw' := hw () trivial
        rw [mr_lc_s] at hw'
        have hl := mr_lc_lt N (by omega) k (by omega) i (by omega)
        generalize mr_lcF N k i = r at hw' hl ⊢
        refine pk_le 20 i (fun z => absurd z (by omega)) (fun _ => pk_le r 0 (fun z => ?_) (fun z => pk_le k i (fun z2 => ?_) (fun z2 => ⟨?_, ?_⟩)))
        · rw [mr_beq_t (show r = 0 by omega)] at hw'
          exact nm_r (nI_1 i) hw'
        · rw [mr_ble_t z2, Bool.or_true] at hw'
          exact nm_r (nI_1 i) hw'
        · rw [nI_1]
          exact nI_ne0 (by omega) (by omega)
        · rw [mr_beq_f (show r ≠ 0 by omega), mr_ble_f z2] at hw'
          have hm : r * (N - i) ≤ r * 20 := Nat.mul_le_mul_left r (by omega)
          rw [pk_sub (show i ≤ N by omega), pk_mul, nI_1, pk_div (by omega) (by omega) (by omega)]
          exact nm_e (nm_e hw')
    rw [h0] at go
    exact go
  · rw [mr_lc_0 h] at hp
    exact mr_chooseZ hp
def mr_chd (N a b : Nat) : Nat := bif Nat.ble b a then mr_ch N (a - b) else 0
theorem mr_chooseD {post : Int32 → Prop} {N a b : Nat} {x y : Int32} (hN : N ≤ 20) (ha : a ≤ 20) (hb : b ≤ 20) (hp : post (nI (mr_chd N a b))) (hy : y = nI a - nI b) (hx : x = nI N := by rfl) : wpL_choose post () x y := by
  unfold mr_chd at hp
  by_cases h : b ≤ a
  · rw [mr_ble_t h] at hp
    exact mr_choose hN (by omega) hp hx (by rw [hy, pk_sub h])
  · rw [mr_ble_f (by omega)] at hp
    exact mr_chooseNeg (by rw [hy]; exact pk_sneg (by omega) (by omega)) hp
end
section
/-! what the pure picture answers in the law's first part: computed by the kernel -/
def mr_c7 (k : Nat) : Nat → Nat := fun i => if i = 7 then k + 1 else 0
theorem mr_g_lay : ∀ w, w < 22 → mr_lay mr_e0 w 0 = (if w = 0 then 1048576 else mr_ch 20 (w - 1)) := by decide +kernel
theorem mr_g_b : ∀ w, w < 22 → ∀ q, q < 21 → mr_lay mr_e0 w q < 2 ^ 30 := by decide +kernel
theorem mr_g_m3 : mr_min mr_e0 0 3 = 524288 := by decide +kernel
theorem mr_g_m19 : ∀ n, n < 21 → mr_min mr_e0 (n + 1) 19 = mr_chd 19 n 1 := by decide +kernel
theorem mr_g_fre : ∀ w, w < 22 → mr_fre mr_e0 w = (if w = 1 then 1048575 else 0) := by decide +kernel
theorem mr_g_sur : ∀ w, w < 22 → mr_sur mr_e0 w = (if w = 21 then 1048575 else 0) := by decide +kernel
theorem mr_g_bes : mr_bes mr_e0 0 = 1 := by decide +kernel
theorem mr_g_gs : mr_gs (mr_E mr_e0 20) (mr_cov mr_e0 20) = [] := by decide +kernel
theorem mr_g_cl0 : mr_clF mr_e0 0 0 9 = 15 := by decide +kernel
theorem mr_g_cl6 : mr_clF mr_e0 0 6 9 = 511 := by decide +kernel
theorem mr_g_cb0 : ∀ k, k < 9 → mr_lay (mr_set mr_e0 0 (k + 1)) 0 0 < 2 ^ 30 := by decide +kernel
theorem mr_g_cb6 : ∀ k, k < 9 → mr_lay (mr_set mr_e0 6 (k + 1)) 0 0 < 2 ^ 30 := by decide +kernel
theorem mr_g_all : ∀ k, k < 21 → mr_g (mr_all mr_e0 0) k = mr_ch 20 k := by decide +kernel
theorem mr_g_rul : mr_rul mr_e0 false = (false, 0, 0, false) := by decide +kernel
theorem mr_h_lay : ∀ k, k < 9 → ∀ n, n < 21 → mr_lay (mr_c7 k) (n + 1) 0 = mr_ch 8 k * mr_chd 11 n k := by decide +kernel
theorem mr_h_m1 : ∀ k, k < 9 → ∀ n, n < 21 → mr_min (mr_c7 k) (n + 1) 1 = mr_chd 7 k 1 * mr_chd 11 n k := by decide +kernel
theorem mr_h_m15 : ∀ k, k < 9 → ∀ n, n < 21 → mr_min (mr_c7 k) (n + 1) 15 = mr_ch 8 k * mr_chd 10 n (k + 1) := by decide +kernel
theorem mr_h_m7 : ∀ k, k < 9 → ∀ n, n < 21 → mr_min (mr_c7 k) (n + 1) 7 = 0 := by decide +kernel
theorem mr_h_gs : ∀ k, k < 9 → mr_gs (mr_E (mr_c7 k) 20) (mr_cov (mr_c7 k) 20) = [14670] := by decide +kernel
theorem mr_h_lay0 : ∀ k, k < 9 → nI (mr_lay (mr_c7 k) 0 0) = nI (mr_ch 8 k) <<< ((11 : Int32) &&& 31) := by decide +kernel
theorem mr_h_r1 : ∀ k, k < 9 → (mr_rul (mr_c7 k) false).2.1 ||| (mr_rul (mr_c7 k) false).2.2.1 < 2 ^ 31 ∧ mr_cnt (mr_rul (mr_c7 k) false) = (if nI k = 0 then 8 else if nI k = 8 then 8 else 0) := by decide +kernel
theorem mr_h_r2 : ∀ k, k < 9 → (mr_rul (mr_c7 k) true).2.1 ||| (mr_rul (mr_c7 k) true).2.2.1 < 2 ^ 31 ∧ mr_dcd 1 (mr_rul (mr_c7 k) true) = (if nI k = 0 then 0 else if nI k = 8 then 1 else -2) := by decide +kernel
end
section
/-! the same for the second part, the field with all cells shown -/
def mr_c2 (a b : Nat) : Nat → Nat := fun i => if i = 0 then a + 1 else if i = 1 then b + 1 else 0
/-- the law's own words over a, b -/
def mr_v5 (x1 x2 : Int32) : Int32 := if 2 < x1 then 1 else if x2 < x1 then 1 else if (x2 - x1) ≤ 2 then 0 else 1
def mr_v6 (x1 : Int32) : Int32 := if x1 = 0 then 0 else if x1 = 2 then 2 else 1
def mr_v7 (x1 x2 : Int32) : Int32 := if x2 = x1 then 1 else if x2 = (x1 + 2) then 1 else 0
def mr_v8 (x1 x2 : Int32) : Int32 := (if mr_v6 x1 = 1 then 0 else 2) + (if mr_v7 x1 x2 = 0 then 0 else 2)
def mr_v9c (x1 x2 : Int32) : Int32 := if x1 = 1 then (if x2 = 0 then 1 else if x2 = 4 then 1 else 0) else 0
def mr_v9b (x1 x2 : Int32) : Int32 := if x1 = 2 then (if x2 < 2 then 1 else mr_v9c x1 x2) else mr_v9c x1 x2
def mr_v9 (x1 x2 : Int32) : Int32 := if 2 < x1 then 1 else if 4 < x2 then 1 else if x1 = 0 then (if 2 < x2 then 1 else mr_v9b x1 x2) else mr_v9b x1 x2
def mr_v10 (x1 x2 x5 : Int32) : Int32 := if x5 = 0 then (if x2 = x1 then 2 else if x1 = 0 then 5 else if (x2 - x1) = 1 then 2 else 3) else -2
def mr_vd (x1 x2 x5 x7 : Int32) : Int32 := if x5 = 0 then (if x7 = 0 then -2 else if x2 = x1 then 0 else 1) else -3
def mr_W (a b : Nat) : Nat := bif Nat.ble a 2 then mr_ch 2 a * mr_chd 2 b a else 0
theorem mr_k_lay : ∀ a, a < 4 → ∀ b, b < 8 → nI (mr_lay (mr_c2 a b) 0 0) = nI (mr_W a b) <<< ((14 : Int32) &&& 31) := by decide +kernel
theorem mr_k_b : ∀ a, a < 4 → ∀ b, b < 8 → ∀ q, q < 21 → mr_lay (mr_c2 a b) 0 q < 2 ^ 30 := by decide +kernel
theorem mr_k_gs : ∀ a, a < 4 → ∀ b, b < 8 → mr_gs (mr_E (mr_c2 a b) 20) (mr_cov (mr_c2 a b) 20) = [228] := by decide +kernel
theorem mr_k_none : ∀ a, a < 4 → ∀ b, b < 8 → mr_v5 (nI a) (nI b) = (if nI (mr_W a b) = 0 then 1 else 0) := by decide +kernel
theorem mr_k_r1 : ∀ a, a < 4 → ∀ b, b < 8 → (mr_rul (mr_c2 a b) true).2.1 ||| (mr_rul (mr_c2 a b) true).2.2.1 < 2 ^ 31 ∧ mr_cnt (mr_rul (mr_c2 a b) true) = (if mr_v5 (nI a) (nI b) = 0 then mr_v8 (nI a) (nI b) else -3) ∧ mr_dcd 2 (mr_rul (mr_c2 a b) true) = mr_vd (nI a) (nI b) (mr_v5 (nI a) (nI b)) (mr_v7 (nI a) (nI b)) := by decide +kernel
theorem mr_k_r2 : ∀ a, a < 4 → ∀ b, b < 8 → (mr_rul (mr_c2 a b) false).2.1 ||| (mr_rul (mr_c2 a b) false).2.2.1 < 2 ^ 31 ∧ (if mr_cnt (mr_rul (mr_c2 a b) false) = (-3) then (1 : Int32) else 0) = mr_v9 (nI a) (nI b) := by decide +kernel
theorem mr_k_bes : ∀ a, a < 4 → ∀ b, b < 8 → mr_dc (mr_bes (mr_c2 a b) 0) = mr_v10 (nI a) (nI b) (mr_v5 (nI a) (nI b)) := by decide +kernel
/-- the cells below n shown with 0 -/
def mr_z (n : Nat) : Nat → Nat := fun i => if i < n then 1 else 0
def mr_z4 : Nat → Nat := fun i => if i = 4 then 2 else mr_z 20 i
def mr_z3 : Nat → Nat := fun i => if i = 3 then 0 else mr_z4 i
theorem mr_l_lay : ∀ w, w < 3 → mr_lay (mr_z 20) w 0 = (if w = 2 then 0 else 1) := by decide +kernel
theorem mr_l_b : ∀ q, q < 21 → mr_lay (mr_z 20) 0 q < 2 ^ 30 := by decide +kernel
theorem mr_l_bes : mr_bes (mr_z 20) 0 = 0 := by decide +kernel
theorem mr_l_all : mr_g (mr_all (mr_z 20) 0) 0 = 1 := by decide +kernel
theorem mr_l_gs : mr_gs (mr_E (mr_z 20) 20) (mr_cov (mr_z 20) 20) = [] := by decide +kernel
theorem mr_l_r1 : (mr_rul (mr_z 20) false).2.1 ||| (mr_rul (mr_z 20) false).2.2.1 < 2 ^ 31 ∧ mr_cnt (mr_rul (mr_z 20) false) = 0 := by decide +kernel
theorem mr_l_r2 : (mr_rul (mr_z 20) true).2.1 ||| (mr_rul (mr_z 20) true).2.2.1 < 2 ^ 31 ∧ mr_cnt (mr_rul (mr_z 20) true) = 0 := by decide +kernel
theorem mr_l_lay4 : mr_lay mr_z4 1 0 = 0 := by decide +kernel
theorem mr_l_r3 : (mr_rul mr_z4 false).2.1 ||| (mr_rul mr_z4 false).2.2.1 < 2 ^ 31 ∧ mr_cnt (mr_rul mr_z4 false) = -3 := by decide +kernel
theorem mr_l_r4 : (mr_rul mr_z4 true).2.1 ||| (mr_rul mr_z4 true).2.2.1 < 2 ^ 31 ∧ mr_cnt (mr_rul mr_z4 true) = -3 ∧ mr_dcd 0 (mr_rul mr_z4 true) = -3 := by decide +kernel
theorem mr_l_lay3 : mr_lay mr_z3 1 0 = 0 := by decide +kernel
theorem mr_l_b3 : ∀ q, q < 21 → mr_lay mr_z3 1 q < 2 ^ 30 := by decide +kernel
theorem mr_l_fre : mr_fre mr_z3 1 = 0 := by decide +kernel
theorem mr_l_sur : mr_sur mr_z3 1 = 0 := by decide +kernel
theorem mr_l_cl : mr_clF mr_z3 1 3 9 = 0 := by decide +kernel
theorem mr_l_cb : ∀ k, k < 9 → mr_lay (mr_set mr_z3 3 (k + 1)) 1 0 < 2 ^ 30 := by decide +kernel
end
section
/-! the law's first part -/
theorem mr_c7_7 (k : Nat) : mr_c7 k 7 = k + 1 := rfl
section
variable {fw fv fg fr fe fm fd ff fk : Int32} {a1 a2 a3 a4 a5 a6 a7 a8 a9 a10 : Nat → Int32} {k n : Nat}
theorem mr_o417 {post : Int32 → St2 → Prop} (hk : k < 9) (h : mr_R (mr_c7 k) 0 (fw, fv, fg, fr, fe, fm, fd, ff, fk, a1, a2, a3, a4, a5, a6, a7, a8, a9, a10)) (H : ∀ u', mr_R mr_e0 0 u' → post 1 u') : wL_one_417 post (nI k) 1 fw fv fg fr fe fm fd ff fk a1 a2 a3 a4 a5 a6 a7 a8 a9 a10 := by
  unfold wL_one_417
  refine br_f (by decide) (mr_show 7 k (cf' := mr_c7 k) h (by omega) (by omega) (fun i hi => ?_) (fun u h => ?_))
  · by_cases e : i = 7
    · rw [if_pos e, e, mr_c7_7]
    · rw [if_neg e]
  obtain ⟨fw, fv, fg, fr, fe, fm, fd, ff, fk, a1, a2, a3, a4, a5, a6, a7, a8, a9, a10⟩ := u
  refine br_t rfl (mr_cover 7 (cf' := mr_e0) h (by omega) (by rw [mr_c7_7]; omega) (fun i hi => ?_) (fun u h => ?_))
  · by_cases e : i = 7
    · rw [if_pos e]; rfl
    · rw [if_neg e]; exact (if_neg e).symm
  obtain ⟨fw, fv, fg, fr, fe, fm, fd, ff, fk, a1, a2, a3, a4, a5, a6, a7, a8, a9, a10⟩ := u
  refine br_t rfl (mr_coverNone 7 h (by omega) rfl ?_)
  refine br_t rfl (mr_layouts h (fun u h => ?_))
  obtain ⟨fw, fv, fg, fr, fe, fm, fd, ff, fk, a1, a2, a3, a4, a5, a6, a7, a8, a9, a10⟩ := u
  exact br_t (by rw [mr_g_lay 0 (by omega)]; rfl) (H _ h)
theorem mr_o409 {post : Int32 → St2 → Prop} {z0 z1 : Int32} (hk : k < 9) (hz : z1 = z0) (h : mr_R (mr_c7 k) 0 (fw, fv, fg, fr, fe, fm, fd, ff, fk, a1, a2, a3, a4, a5, a6, a7, a8, a9, a10)) (H : ∀ u', mr_R mr_e0 0 u' → post 1 u') : wL_one_409 post (nI k) z0 z1 fw fv fg fr fe fm fd ff fk a1 a2 a3 a4 a5 a6 a7 a8 a9 a10 :=
  br_t hz (mr_o417 hk h H)
theorem mr_o381 {post : Int32 → St2 → Prop} {z0 z1 : Int32} (hk : k < 9) (hz : z1 = z0) (h : mr_R (mr_c7 k) 0 (fw, fv, fg, fr, fe, fm, fd, ff, fk, a1, a2, a3, a4, a5, a6, a7, a8, a9, a10)) (H : ∀ u', mr_R mr_e0 0 u' → post 1 u') : wL_one_381 post (nI k) z0 z1 fw fv fg fr fe fm fd ff fk a1 a2 a3 a4 a5 a6 a7 a8 a9 a10 := by
  refine br_t hz (mr_decided 1 h (by omega) (mr_h_r2 k hk).1 (fun u h => ?_))
  obtain ⟨fw, fv, fg, fr, fe, fm, fd, ff, fk, a1, a2, a3, a4, a5, a6, a7, a8, a9, a10⟩ := u
  have e := (mr_h_r2 k hk).2
  refine br_c (fun z => mr_o409 hk (by rw [e, if_pos z]) h H) (fun z => br_c (fun y => mr_o409 hk (by rw [e, if_neg z, if_pos y]) h H) (fun y => mr_o409 hk (by rw [e, if_neg z, if_neg y]) h H))
theorem mr_o209 {post : Int32 → St2 → Prop} (hk : k < 9) (hn : n < 21) (h : mr_R mr_e0 (n + 1) (fw, fv, fg, fr, fe, fm, fd, ff, fk, a1, a2, a3, a4, a5, a6, a7, a8, a9, a10)) (H : ∀ u', mr_R mr_e0 0 u' → post 1 u') : wL_one_209 post (nI k) (nI n) 1 fw fv fg fr fe fm fd ff fk a1 a2 a3 a4 a5 a6 a7 a8 a9 a10 := by
  unfold wL_one_209
  refine br_f (by decide) (mr_show 7 k (cf' := mr_c7 k) h (by omega) (by omega) (fun i hi => rfl) (fun u h => ?_))
  obtain ⟨fw, fv, fg, fr, fe, fm, fd, ff, fk, a1, a2, a3, a4, a5, a6, a7, a8, a9, a10⟩ := u
  refine br_t rfl (mr_layouts h (fun u h => ?_))
  obtain ⟨fw, fv, fg, fr, fe, fm, fd, ff, fk, a1, a2, a3, a4, a5, a6, a7, a8, a9, a10⟩ := u
  refine mr_choose (N := 8) (k := k) (by omega) (by omega) (mr_chooseD (N := 11) (a := n) (b := k) (by omega) (by omega) (by omega) (br_t (by rw [mr_h_lay k hk n hn, pk_mul]) ?_) rfl)
  refine mr_mined 1 h (by omega) (fun u h => ?_)
  obtain ⟨fw, fv, fg, fr, fe, fm, fd, ff, fk, a1, a2, a3, a4, a5, a6, a7, a8, a9, a10⟩ := u
  refine mr_chooseD (N := 7) (a := k) (b := 1) (by omega) (by omega) (by omega) (mr_chooseD (N := 11) (a := n) (b := k) (by omega) (by omega) (by omega) (br_t (by rw [mr_h_m1 k hk n hn, pk_mul]) ?_) rfl) rfl
  refine mr_mined 15 h (by omega) (fun u h => ?_)
  obtain ⟨fw, fv, fg, fr, fe, fm, fd, ff, fk, a1, a2, a3, a4, a5, a6, a7, a8, a9, a10⟩ := u
  refine mr_choose (N := 8) (k := k) (by omega) (by omega) (mr_chooseD (N := 10) (a := n) (b := k + 1) (by omega) (by omega) (by omega) (br_t (by rw [mr_h_m15 k hk n hn, pk_mul]) ?_) (by rw [← nI_1]; grind))
  refine mr_mined 7 h (by omega) (fun u h => ?_)
  obtain ⟨fw, fv, fg, fr, fe, fm, fd, ff, fk, a1, a2, a3, a4, a5, a6, a7, a8, a9, a10⟩ := u
  refine br_t (by rw [mr_h_m7 k hk n hn]; rfl) (mr_groupOf 8 h (by omega) (fun u h => ?_))
  obtain ⟨fw, fv, fg, fr, fe, fm, fd, ff, fk, a1, a2, a3, a4, a5, a6, a7, a8, a9, a10⟩ := u
  refine br_t (by rw [mr_h_gs k hk]; decide) (mr_groups h (fun u h => ?_))
  obtain ⟨fw, fv, fg, fr, fe, fm, fd, ff, fk, a1, a2, a3, a4, a5, a6, a7, a8, a9, a10⟩ := u
  refine br_t (by rw [mr_h_gs k hk]; decide) (mr_cluesShown 7 h (by omega) (by rw [mr_c7_7]; omega) ?_)
  refine br_t rfl (mr_total 0 h (by omega) (fun u h => ?_))
  obtain ⟨fw, fv, fg, fr, fe, fm, fd, ff, fk, a1, a2, a3, a4, a5, a6, a7, a8, a9, a10⟩ := u
  refine br_t rfl (mr_layouts h (fun u h => ?_))
  obtain ⟨fw, fv, fg, fr, fe, fm, fd, ff, fk, a1, a2, a3, a4, a5, a6, a7, a8, a9, a10⟩ := u
  refine mr_choose (N := 8) (k := k) (by omega) (by omega) (br_t (mr_h_lay0 k hk) ?_)
  refine mr_simple h (mr_h_r1 k hk).1 (fun u h => ?_)
  obtain ⟨fw, fv, fg, fr, fe, fm, fd, ff, fk, a1, a2, a3, a4, a5, a6, a7, a8, a9, a10⟩ := u
  have e := (mr_h_r1 k hk).2
  exact br_c (fun z => mr_o381 hk (by rw [e, if_pos z]) h H) (fun z => br_c (fun y => mr_o381 hk (by rw [e, if_neg z, if_pos y]) h H) (fun y => mr_o381 hk (by rw [e, if_neg z, if_neg y]) h H))
theorem mr_o201 {post : Int32 → St2 → Prop} {z0 z1 : Int32} (hk : k < 9) (hn : n < 21) (hz : z1 = z0) (h : mr_R mr_e0 (n + 1) (fw, fv, fg, fr, fe, fm, fd, ff, fk, a1, a2, a3, a4, a5, a6, a7, a8, a9, a10)) (H : ∀ u', mr_R mr_e0 0 u' → post 1 u') : wL_one_201 post (nI k) (nI n) z0 z1 fw fv fg fr fe fm fd ff fk a1 a2 a3 a4 a5 a6 a7 a8 a9 a10 :=
  br_t hz (mr_o209 hk hn h H)
theorem mr_o184 {post : Int32 → St2 → Prop} {z0 z1 : Int32} (hk : k < 9) (hn : n < 21) (hz : z1 = z0) (h : mr_R mr_e0 (n + 1) (fw, fv, fg, fr, fe, fm, fd, ff, fk, a1, a2, a3, a4, a5, a6, a7, a8, a9, a10)) (H : ∀ u', mr_R mr_e0 0 u' → post 1 u') : wL_one_184 post (nI k) (nI n) z0 z1 fw fv fg fr fe fm fd ff fk a1 a2 a3 a4 a5 a6 a7 a8 a9 a10 := by
  refine br_t hz (mr_free h (fun q hq => mr_g_b (n + 1) (by omega) q (by omega)) (fun u h => ?_))
  obtain ⟨fw, fv, fg, fr, fe, fm, fd, ff, fk, a1, a2, a3, a4, a5, a6, a7, a8, a9, a10⟩ := u
  have e := mr_g_fre (n + 1) (by omega)
  exact pk_eq n 0 (fun z => mr_o201 hk hn (by rw [e, if_pos (by omega)]; rfl) h H) (fun z => mr_o201 hk hn (by rw [e, if_neg (by omega)]; rfl) h H)
theorem mr_o100 {post : Int32 → St2 → Prop} (hk : k < 9) (hn : n < 21) (h : mr_R mr_e0 0 (fw, fv, fg, fr, fe, fm, fd, ff, fk, a1, a2, a3, a4, a5, a6, a7, a8, a9, a10)) (H : ∀ u', mr_R mr_e0 0 u' → post 1 u') : wL_one_100 post (nI k) (nI n) 1 fw fv fg fr fe fm fd ff fk a1 a2 a3 a4 a5 a6 a7 a8 a9 a10 := by
  unfold wL_one_100
  refine br_f (by decide) (mr_total (n + 1) h (by omega) (fun u h => ?_))
  obtain ⟨fw, fv, fg, fr, fe, fm, fd, ff, fk, a1, a2, a3, a4, a5, a6, a7, a8, a9, a10⟩ := u
  refine br_t rfl (mr_layouts h (fun u h => ?_))
  obtain ⟨fw, fv, fg, fr, fe, fm, fd, ff, fk, a1, a2, a3, a4, a5, a6, a7, a8, a9, a10⟩ := u
  refine mr_choose (N := 20) (k := n) (by omega) (by omega) (br_t (by rw [mr_g_lay (n + 1) (by omega), if_neg (by omega)]; rfl) ?_)
  refine mr_mined 19 h (by omega) (fun u h => ?_)
  obtain ⟨fw, fv, fg, fr, fe, fm, fd, ff, fk, a1, a2, a3, a4, a5, a6, a7, a8, a9, a10⟩ := u
  refine mr_chooseD (N := 19) (a := n) (b := 1) (by omega) (by omega) (by omega) (br_t (by rw [mr_g_m19 n hn]) ?_) rfl
  refine mr_withMines n h (by omega) (fun u h => ?_)
  obtain ⟨fw, fv, fg, fr, fe, fm, fd, ff, fk, a1, a2, a3, a4, a5, a6, a7, a8, a9, a10⟩ := u
  refine mr_choose (N := 20) (k := n) (by omega) (by omega) (br_t (by rw [mr_beq_t (rfl : n + 1 = n + 1), Bool.or_true, cond_true, mr_g_all n hn]) ?_)
  have fin : ∀ u : St2, mr_R mr_e0 (n + 1) u → wpX_sure (fun r_920 u => match u with | (yfw, yfv, yfg, yfr, yfe, yfm, yfd, yff, yfk, ya1, ya2, ya3, ya4, ya5, ya6, ya7, ya8, ya9, ya10) => ((nI n = 20 → (wL_one_184 post (nI k) (nI n) 1048575 r_920 yfw yfv yfg yfr yfe yfm yfd yff yfk ya1 ya2 ya3 ya4 ya5 ya6 ya7 ya8 ya9 ya10)) ∧ (¬ nI n = 20 → (wL_one_184 post (nI k) (nI n) 0 r_920 yfw yfv yfg yfr yfe yfm yfd yff yfk ya1 ya2 ya3 ya4 ya5 ya6 ya7 ya8 ya9 ya10)))) u := by
    intro u h
    refine mr_sure h (fun q hq => mr_g_b (n + 1) (by omega) q (by omega)) (fun u h => ?_)
    obtain ⟨fw, fv, fg, fr, fe, fm, fd, ff, fk, a1, a2, a3, a4, a5, a6, a7, a8, a9, a10⟩ := u
    have e := mr_g_sur (n + 1) (by omega)
    exact pk_eq n 20 (fun z => mr_o184 hk hn (by rw [e, if_pos (by omega)]; rfl) h H) (fun z => mr_o184 hk hn (by rw [e, if_neg (by omega)]; rfl) h H)
  by_cases e : n = 20
  · refine mr_withMinesBad h (Or.inr (by rw [e]; decide)) (fun u h => ?_)
    obtain ⟨fw, fv, fg, fr, fe, fm, fd, ff, fk, a1, a2, a3, a4, a5, a6, a7, a8, a9, a10⟩ := u
    exact br_t rfl (fin _ h)
  · refine mr_withMines (n + 1) h (by omega) (fun u h => ?_) (nI_1 n)
    obtain ⟨fw, fv, fg, fr, fe, fm, fd, ff, fk, a1, a2, a3, a4, a5, a6, a7, a8, a9, a10⟩ := u
    exact br_t (by rw [mr_beq_f (show n + 1 ≠ 0 by omega), mr_beq_f (show n + 1 ≠ n + 1 + 1 by omega)]; rfl) (fin _ h)
end
theorem mr_lawOne {post : Int32 → St2 → Prop} {u : St2} {k n : Nat} (hk : k < 9) (hn : n < 21) (h : mr_R mr_e0 0 u) (H : ∀ u', mr_R mr_e0 0 u' → post 1 u') : wpL_one post u (nI k) (nI n) := by
  obtain ⟨fw, fv, fg, fr, fe, fm, fd, ff, fk, a1, a2, a3, a4, a5, a6, a7, a8, a9, a10⟩ := u
  unfold wpL_one
  dsimp only
  refine mr_layouts h (fun u h => ?_)
  obtain ⟨fw, fv, fg, fr, fe, fm, fd, ff, fk, a1, a2, a3, a4, a5, a6, a7, a8, a9, a10⟩ := u
  refine br_t (by rw [mr_g_lay 0 (by omega)]; rfl) (mr_mined 3 h (by omega) (fun u h => ?_))
  obtain ⟨fw, fv, fg, fr, fe, fm, fd, ff, fk, a1, a2, a3, a4, a5, a6, a7, a8, a9, a10⟩ := u
  refine br_t (by rw [mr_g_m3]; rfl) (mr_free h (fun q hq => mr_g_b 0 (by omega) q (by omega)) (fun u h => ?_))
  obtain ⟨fw, fv, fg, fr, fe, fm, fd, ff, fk, a1, a2, a3, a4, a5, a6, a7, a8, a9, a10⟩ := u
  refine br_t (by rw [mr_g_fre 0 (by omega)]; rfl) (mr_sure h (fun q hq => mr_g_b 0 (by omega) q (by omega)) (fun u h => ?_))
  obtain ⟨fw, fv, fg, fr, fe, fm, fd, ff, fk, a1, a2, a3, a4, a5, a6, a7, a8, a9, a10⟩ := u
  refine br_t (by rw [mr_g_sur 0 (by omega)]; rfl) (mr_best h (fun q hq => mr_g_b 0 (by omega) q (by omega)) (fun u h => ?_))
  obtain ⟨fw, fv, fg, fr, fe, fm, fd, ff, fk, a1, a2, a3, a4, a5, a6, a7, a8, a9, a10⟩ := u
  refine br_t (by rw [mr_g_bes]; rfl) (mr_groups h (fun u h => ?_))
  obtain ⟨fw, fv, fg, fr, fe, fm, fd, ff, fk, a1, a2, a3, a4, a5, a6, a7, a8, a9, a10⟩ := u
  refine br_t (by rw [mr_g_gs]; rfl) (mr_groupOf 0 h (by omega) (fun u h => ?_))
  obtain ⟨fw, fv, fg, fr, fe, fm, fd, ff, fk, a1, a2, a3, a4, a5, a6, a7, a8, a9, a10⟩ := u
  refine br_t (by rw [mr_g_gs]; rfl) (mr_clues 0 h (by omega) rfl mr_g_cb0 (fun u h => ?_))
  obtain ⟨fw, fv, fg, fr, fe, fm, fd, ff, fk, a1, a2, a3, a4, a5, a6, a7, a8, a9, a10⟩ := u
  refine br_t (by rw [mr_g_cl0]; rfl) (mr_clues 6 h (by omega) rfl mr_g_cb6 (fun u h => ?_))
  obtain ⟨fw, fv, fg, fr, fe, fm, fd, ff, fk, a1, a2, a3, a4, a5, a6, a7, a8, a9, a10⟩ := u
  refine br_t (by rw [mr_g_cl6]; rfl) (mr_withMines 10 h (by omega) (fun u h => ?_))
  obtain ⟨fw, fv, fg, fr, fe, fm, fd, ff, fk, a1, a2, a3, a4, a5, a6, a7, a8, a9, a10⟩ := u
  refine br_t (by rw [mr_g_all 10 (by omega)]; decide +kernel) (mr_simple h (by rw [mr_g_rul]; decide) (fun u h => ?_))
  obtain ⟨fw, fv, fg, fr, fe, fm, fd, ff, fk, a1, a2, a3, a4, a5, a6, a7, a8, a9, a10⟩ := u
  exact br_t (by rw [mr_g_rul]; decide) (mr_o100 hk hn h H)
end
section
/-! the law's second part -/
theorem mr_if {α : Type} {c : Prop} [Decidable c] {P : α → Prop} {a b : α} (h : P (if c then a else b)) : (c → P a) ∧ (¬ c → P b) :=
  ⟨fun hc => by rw [if_pos hc] at h; exact h, fun hc => by rw [if_neg hc] at h; exact h⟩
section
variable {fw fv fg fr fe fm fd ff fk : Int32} {a1 a2 a3 a4 a5 a6 a7 a8 a9 a10 : Nat → Int32} {a b : Nat}
theorem mr_p404 {post : Int32 → St2 → Prop} {z0 z1 x10 : Int32} (ha : a < 4) (hb : b < 8) (hz : z1 = z0) (hx : x10 = mr_v10 (nI a) (nI b) (mr_v5 (nI a) (nI b))) (h : mr_R (mr_c2 a b) 0 (fw, fv, fg, fr, fe, fm, fd, ff, fk, a1, a2, a3, a4, a5, a6, a7, a8, a9, a10)) (H : ∀ u', mr_R mr_e0 0 u' → post 1 u') : wL_two_404 post (nI a) (nI b) x10 z0 z1 fw fv fg fr fe fm fd ff fk a1 a2 a3 a4 a5 a6 a7 a8 a9 a10 := by
  unfold wL_two_404
  refine br_t hz (mr_best h (fun q hq => mr_k_b a ha b hb q (by omega)) (fun u h => ?_))
  obtain ⟨fw, fv, fg, fr, fe, fm, fd, ff, fk, a1, a2, a3, a4, a5, a6, a7, a8, a9, a10⟩ := u
  refine br_t (by rw [mr_k_bes a ha b hb, hx]) (mr_cover 0 (cf' := fun i => if i = 0 then 0 else mr_c2 a b i) h (by omega) (Nat.succ_ne_zero a) (fun i hi => rfl) (fun u h => ?_))
  obtain ⟨fw, fv, fg, fr, fe, fm, fd, ff, fk, a1, a2, a3, a4, a5, a6, a7, a8, a9, a10⟩ := u
  refine br_t rfl (mr_cover 1 (cf' := mr_e0) h (by omega) (Nat.succ_ne_zero b) (fun i hi => ?_) (fun u h => ?_))
  · by_cases e : i = 1
    · rw [if_pos e]; rfl
    · rw [if_neg e]
      by_cases e2 : i = 0
      · rw [if_pos e2]; rfl
      · rw [if_neg e2]
        show 0 = (if i = 0 then a + 1 else if i = 1 then b + 1 else 0)
        rw [if_neg e2, if_neg e]
  obtain ⟨fw, fv, fg, fr, fe, fm, fd, ff, fk, a1, a2, a3, a4, a5, a6, a7, a8, a9, a10⟩ := u
  exact br_t rfl (H _ h)
theorem mr_p364 {post : Int32 → St2 → Prop} {z0 x9 x10 : Int32} (ha : a < 4) (hb : b < 8) (hz : z0 = x9) (hx : x10 = mr_v10 (nI a) (nI b) (mr_v5 (nI a) (nI b))) (h : mr_R (mr_c2 a b) 0 (fw, fv, fg, fr, fe, fm, fd, ff, fk, a1, a2, a3, a4, a5, a6, a7, a8, a9, a10)) (H : ∀ u', mr_R mr_e0 0 u' → post 1 u') : wL_two_364 post (nI a) (nI b) (mr_v5 (nI a) (nI b)) (mr_v7 (nI a) (nI b)) x9 x10 z0 fw fv fg fr fe fm fd ff fk a1 a2 a3 a4 a5 a6 a7 a8 a9 a10 := by
  unfold wL_two_364
  refine br_t hz (mr_decided 2 h (by omega) (mr_k_r1 a ha b hb).1 (fun u h => ?_))
  obtain ⟨fw, fv, fg, fr, fe, fm, fd, ff, fk, a1, a2, a3, a4, a5, a6, a7, a8, a9, a10⟩ := u
  have e := (mr_k_r1 a ha b hb).2.2
  unfold mr_vd at e
  refine br_c (fun z => br_c (fun y => ?_) (fun y => br_c (fun w => ?_) (fun w => ?_))) (fun z => ?_)
  · exact mr_p404 ha hb (by rw [e, if_pos z, if_pos y]) hx h H
  · exact mr_p404 ha hb (by rw [e, if_pos z, if_neg y, if_pos w]) hx h H
  · exact mr_p404 ha hb (by rw [e, if_pos z, if_neg y, if_neg w]) hx h H
  · exact mr_p404 ha hb (by rw [e, if_neg z]) hx h H
theorem mr_p347 {post : Int32 → St2 → Prop} {z0 z1 x10 : Int32} (ha : a < 4) (hb : b < 8) (hz : z1 = z0) (hx : x10 = mr_v10 (nI a) (nI b) (mr_v5 (nI a) (nI b))) (h : mr_R (mr_c2 a b) 0 (fw, fv, fg, fr, fe, fm, fd, ff, fk, a1, a2, a3, a4, a5, a6, a7, a8, a9, a10)) (H : ∀ u', mr_R mr_e0 0 u' → post 1 u') : wL_two_347 post (nI a) (nI b) (mr_v5 (nI a) (nI b)) (mr_v7 (nI a) (nI b)) (mr_v9 (nI a) (nI b)) x10 z0 z1 fw fv fg fr fe fm fd ff fk a1 a2 a3 a4 a5 a6 a7 a8 a9 a10 := by
  unfold wL_two_347
  refine br_t hz (mr_simple h (mr_k_r2 a ha b hb).1 (fun u h => ?_))
  obtain ⟨fw, fv, fg, fr, fe, fm, fd, ff, fk, a1, a2, a3, a4, a5, a6, a7, a8, a9, a10⟩ := u
  have e := (mr_k_r2 a ha b hb).2
  refine br_c (fun z => ?_) (fun z => ?_)
  · rw [if_pos z] at e
    exact mr_p364 ha hb e hx h H
  · rw [if_neg z] at e
    exact mr_p364 ha hb e hx h H
theorem mr_p328 {post : Int32 → St2 → Prop} {z0 x10 : Int32} (ha : a < 4) (hb : b < 8) (hz : mr_v5 (nI a) (nI b) = z0) (hx : x10 = mr_v10 (nI a) (nI b) (mr_v5 (nI a) (nI b))) (h : mr_R (mr_c2 a b) 0 (fw, fv, fg, fr, fe, fm, fd, ff, fk, a1, a2, a3, a4, a5, a6, a7, a8, a9, a10)) (H : ∀ u', mr_R mr_e0 0 u' → post 1 u') : wL_two_328 post (nI a) (nI b) (mr_v5 (nI a) (nI b)) (mr_v7 (nI a) (nI b)) (mr_v8 (nI a) (nI b)) (mr_v9 (nI a) (nI b)) x10 z0 (mr_v5 (nI a) (nI b)) fw fv fg fr fe fm fd ff fk a1 a2 a3 a4 a5 a6 a7 a8 a9 a10 := by
  unfold wL_two_328
  refine br_t hz (mr_paired h (mr_k_r1 a ha b hb).1 (fun u h => ?_))
  obtain ⟨fw, fv, fg, fr, fe, fm, fd, ff, fk, a1, a2, a3, a4, a5, a6, a7, a8, a9, a10⟩ := u
  have e := (mr_k_r1 a ha b hb).2.1
  refine br_c (fun z => ?_) (fun z => ?_)
  · exact mr_p347 ha hb (by rw [e, if_pos z]) hx h H
  · exact mr_p347 ha hb (by rw [e, if_neg z]) hx h H
theorem mr_p310 {post : Int32 → St2 → Prop} {x10 : Int32} (ha : a < 4) (hb : b < 8) (hx : x10 = mr_v10 (nI a) (nI b) (mr_v5 (nI a) (nI b))) (h : mr_R (mr_c2 a b) 0 (fw, fv, fg, fr, fe, fm, fd, ff, fk, a1, a2, a3, a4, a5, a6, a7, a8, a9, a10)) (H : ∀ u', mr_R mr_e0 0 u' → post 1 u') : wL_two_310 post (nI a) (nI b) 1 (nI (mr_W a b)) (mr_v5 (nI a) (nI b)) (mr_v7 (nI a) (nI b)) (mr_v8 (nI a) (nI b)) (mr_v9 (nI a) (nI b)) x10 fw fv fg fr fe fm fd ff fk a1 a2 a3 a4 a5 a6 a7 a8 a9 a10 := by
  unfold wL_two_310
  have e := mr_k_none a ha b hb
  refine br_f (by decide) (br_c (fun z => ?_) (fun z => ?_))
  · exact mr_p328 ha hb (by rw [e, if_pos z]) hx h H
  · exact mr_p328 ha hb (by rw [e, if_neg z]) hx h H
/-- the rest of the way is the law's own arithmetic -/
theorem mr_p269 {post : Int32 → St2 → Prop} {x1 x2 x3 x4 x5 x7 x8 z0 : Int32} (h : ∀ x10, x10 = mr_v10 x1 x2 x5 → wL_two_310 post x1 x2 x3 x4 x5 x7 x8 z0 x10 fw fv fg fr fe fm fd ff fk a1 a2 a3 a4 a5 a6 a7 a8 a9 a10) : wL_two_269 post x1 x2 x3 x4 x5 x7 x8 z0 fw fv fg fr fe fm fd ff fk a1 a2 a3 a4 a5 a6 a7 a8 a9 a10 := by
  unfold wL_two_269
  unfold mr_v10 at h
  refine br_c (fun z => br_c (fun y => ?_) (fun y => br_c (fun w => ?_) (fun w => br_c (fun v => ?_) (fun v => ?_)))) (fun z => ?_)
  · exact h _ (by rw [if_pos z, if_pos y])
  · exact h _ (by rw [if_pos z, if_neg y, if_pos w])
  · exact h _ (by rw [if_pos z, if_neg y, if_neg w, if_pos v])
  · exact h _ (by rw [if_pos z, if_neg y, if_neg w, if_neg v])
  · exact h _ (by rw [if_neg z])
theorem mr_p250 {post : Int32 → St2 → Prop} {x1 x2 x3 x4 x5 x7 x8 : Int32} (h : ∀ x9, x9 = mr_v9c x1 x2 → wL_two_269 post x1 x2 x3 x4 x5 x7 x8 x9 fw fv fg fr fe fm fd ff fk a1 a2 a3 a4 a5 a6 a7 a8 a9 a10) : wL_two_250 post x1 x2 x3 x4 x5 x7 x8 fw fv fg fr fe fm fd ff fk a1 a2 a3 a4 a5 a6 a7 a8 a9 a10 := by
  unfold wL_two_250 wL_two_264 wL_two_268
  unfold mr_v9c at h
  refine br_c (fun z => br_c (fun y => ?_) (fun y => br_c (fun w => ?_) (fun w => ?_))) (fun z => ?_)
  · exact h _ (by rw [if_pos z, if_pos y])
  · exact h _ (by rw [if_pos z, if_neg y, if_pos w])
  · exact h _ (by rw [if_pos z, if_neg y, if_neg w])
  · exact h _ (by rw [if_neg z])
theorem mr_p240 {post : Int32 → St2 → Prop} {x1 x2 x3 x4 x5 x7 x8 : Int32} (h : ∀ x9, x9 = mr_v9b x1 x2 → wL_two_269 post x1 x2 x3 x4 x5 x7 x8 x9 fw fv fg fr fe fm fd ff fk a1 a2 a3 a4 a5 a6 a7 a8 a9 a10) : wL_two_240 post x1 x2 x3 x4 x5 x7 x8 fw fv fg fr fe fm fd ff fk a1 a2 a3 a4 a5 a6 a7 a8 a9 a10 := by
  unfold wL_two_240 wL_two_264
  unfold mr_v9b at h
  refine br_c (fun z => br_c (fun y => ?_) (fun y => ?_)) (fun z => ?_)
  · exact h _ (by rw [if_pos z, if_pos y])
  · exact mr_p250 (fun x9 e => h x9 (by rw [if_pos z, if_neg y]; exact e))
  · exact mr_p250 (fun x9 e => h x9 (by rw [if_neg z]; exact e))
theorem mr_p218 {post : Int32 → St2 → Prop} {x1 x2 x3 x4 x5 x7 z0 z1 : Int32} (h : ∀ x9, x9 = mr_v9 x1 x2 → wL_two_269 post x1 x2 x3 x4 x5 x7 (z1 + z0) x9 fw fv fg fr fe fm fd ff fk a1 a2 a3 a4 a5 a6 a7 a8 a9 a10) : wL_two_218 post x1 x2 x3 x4 x5 x7 z0 z1 fw fv fg fr fe fm fd ff fk a1 a2 a3 a4 a5 a6 a7 a8 a9 a10 := by
  unfold wL_two_218 wL_two_264
  unfold mr_v9 at h
  refine nm_e (br_c (fun z => ?_) (fun z => br_c (fun y => ?_) (fun y => br_c (fun w => br_c (fun v => ?_) (fun v => ?_)) (fun w => ?_))))
  · exact h _ (by rw [if_pos z])
  · exact h _ (by rw [if_neg z, if_pos y])
  · exact h _ (by rw [if_neg z, if_neg y, if_pos w, if_pos v])
  · exact mr_p240 (fun x9 e => h x9 (by rw [if_neg z, if_neg y, if_pos w, if_neg v]; exact e))
  · exact mr_p240 (fun x9 e => h x9 (by rw [if_neg z, if_neg y, if_neg w]; exact e))
theorem mr_p195 {post : Int32 → St2 → Prop} {x1 x2 x3 x4 x5 x6 x7 : Int32} (h : ∀ x8, x8 = (if x6 = 1 then 0 else 2) + (if x7 = 0 then 0 else 2) → ∀ x9, x9 = mr_v9 x1 x2 → wL_two_269 post x1 x2 x3 x4 x5 x7 x8 x9 fw fv fg fr fe fm fd ff fk a1 a2 a3 a4 a5 a6 a7 a8 a9 a10) : wL_two_195 post x1 x2 x3 x4 x5 x6 x7 fw fv fg fr fe fm fd ff fk a1 a2 a3 a4 a5 a6 a7 a8 a9 a10 := by
  unfold wL_two_195 wL_two_208
  refine br_c (fun z => br_c (fun y => ?_) (fun y => ?_)) (fun z => br_c (fun y => ?_) (fun y => ?_))
  · exact mr_p218 (h _ (by rw [if_pos z, if_pos y]))
  · exact mr_p218 (h _ (by rw [if_pos z, if_neg y]))
  · exact mr_p218 (h _ (by rw [if_neg z, if_pos y]))
  · exact mr_p218 (h _ (by rw [if_neg z, if_neg y]))
theorem mr_p176 {post : Int32 → St2 → Prop} {x1 x2 x3 x4 x5 x6 : Int32} (h : ∀ x7, x7 = mr_v7 x1 x2 → ∀ x8, x8 = (if x6 = 1 then 0 else 2) + (if x7 = 0 then 0 else 2) → ∀ x9, x9 = mr_v9 x1 x2 → wL_two_269 post x1 x2 x3 x4 x5 x7 x8 x9 fw fv fg fr fe fm fd ff fk a1 a2 a3 a4 a5 a6 a7 a8 a9 a10) : wL_two_176 post x1 x2 x3 x4 x5 x6 fw fv fg fr fe fm fd ff fk a1 a2 a3 a4 a5 a6 a7 a8 a9 a10 := by
  unfold wL_two_176 wL_two_190
  unfold mr_v7 at h
  refine br_c (fun z => ?_) (fun z => br_c (fun y => ?_) (fun y => ?_))
  · exact mr_p195 (h _ (by rw [if_pos z]))
  · exact mr_p195 (h _ (by rw [if_neg z, if_pos y]))
  · exact mr_p195 (h _ (by rw [if_neg z, if_neg y]))
theorem mr_p157 {post : Int32 → St2 → Prop} {x1 x2 x4 x5 : Int32} (h : wL_two_269 post x1 x2 1 x4 x5 (mr_v7 x1 x2) (mr_v8 x1 x2) (mr_v9 x1 x2) fw fv fg fr fe fm fd ff fk a1 a2 a3 a4 a5 a6 a7 a8 a9 a10) : wL_two_157 post x1 x2 x4 x5 1 fw fv fg fr fe fm fd ff fk a1 a2 a3 a4 a5 a6 a7 a8 a9 a10 := by
  have key : ∀ x6, x6 = mr_v6 x1 → wL_two_176 post x1 x2 1 x4 x5 x6 fw fv fg fr fe fm fd ff fk a1 a2 a3 a4 a5 a6 a7 a8 a9 a10 := by
    intro x6 e6
    refine mr_p176 (fun x7 e7 x8 e8 x9 e9 => ?_)
    subst e9
    rw [e6, e7] at e8
    have e8' : x8 = mr_v8 x1 x2 := e8
    rw [e7, e8']
    exact h
  unfold wL_two_157
  unfold mr_v6 at key
  refine br_c (fun z => ?_) (fun z => br_c (fun y => ?_) (fun y => ?_))
  · exact key _ (by rw [if_pos z])
  · exact key _ (by rw [if_neg z, if_pos y])
  · exact key _ (by rw [if_neg z, if_neg y])
theorem mr_p100 {post : Int32 → St2 → Prop} {x5 : Int32} (ha : a < 4) (hb : b < 8) (h5 : x5 = mr_v5 (nI a) (nI b)) (h : mr_R (mr_c2 a b) 0 (fw, fv, fg, fr, fe, fm, fd, ff, fk, a1, a2, a3, a4, a5, a6, a7, a8, a9, a10)) (H : ∀ u', mr_R mr_e0 0 u' → post 1 u') : wL_two_100 post (nI a) (nI b) 1 (nI (mr_W a b)) x5 fw fv fg fr fe fm fd ff fk a1 a2 a3 a4 a5 a6 a7 a8 a9 a10 := by
  subst h5
  unfold wL_two_100
  have eg := mr_k_gs a ha b hb
  refine br_f (by decide) (mr_layouts h (fun u h => ?_))
  obtain ⟨fw, fv, fg, fr, fe, fm, fd, ff, fk, a1, a2, a3, a4, a5, a6, a7, a8, a9, a10⟩ := u
  refine br_t (mr_k_lay a ha b hb) (mr_groups h (fun u h => ?_))
  obtain ⟨fw, fv, fg, fr, fe, fm, fd, ff, fk, a1, a2, a3, a4, a5, a6, a7, a8, a9, a10⟩ := u
  refine br_t (by rw [eg]; decide) (mr_groupOf 2 h (by omega) (fun u h => ?_))
  obtain ⟨fw, fv, fg, fr, fe, fm, fd, ff, fk, a1, a2, a3, a4, a5, a6, a7, a8, a9, a10⟩ := u
  refine br_t (by rw [eg]; decide) (mr_groupOf 5 h (by omega) (fun u h => ?_))
  obtain ⟨fw, fv, fg, fr, fe, fm, fd, ff, fk, a1, a2, a3, a4, a5, a6, a7, a8, a9, a10⟩ := u
  refine br_t (by rw [eg]; decide) (mr_groupOf 0 h (by omega) (fun u h => ?_))
  obtain ⟨fw, fv, fg, fr, fe, fm, fd, ff, fk, a1, a2, a3, a4, a5, a6, a7, a8, a9, a10⟩ := u
  refine br_t (by rw [eg]; decide) (mr_p157 (mr_p269 (fun x10 hx => mr_p310 ha hb hx h H)))
theorem mr_p34 {post : Int32 → St2 → Prop} (ha : a < 4) (hb : b < 8) (h : mr_R (mr_c2 a b) 0 (fw, fv, fg, fr, fe, fm, fd, ff, fk, a1, a2, a3, a4, a5, a6, a7, a8, a9, a10)) (H : ∀ u', mr_R mr_e0 0 u' → post 1 u') : ∃ n, wL_two_34 post (nI a) (nI b) 1 fw fv fg fr fe fm fd ff fk a1 a2 a3 a4 a5 a6 a7 a8 a9 a10 n 0 0 := by
  refine pk_loop (σ := Unit) (fun n i _ => wL_two_34 post (nI a) (nI b) 1 fw fv fg fr fe fm fd ff fk a1 a2 a3 a4 a5 a6 a7 a8 a9 a10 n (nI (if a < i then mr_ch 2 a * mr_chd 2 b a else 0)) (nI i)) (fun _ _ => True) 3 0 () (by omega) trivial ?_ ?_
  · intro n _ _
    have eW : (if a < 3 then mr_ch 2 a * mr_chd 2 b a else 0) = mr_W a b := by
      unfold mr_W
      by_cases e : a < 3
      · rw [if_pos e, mr_ble_t (show a ≤ 2 by omega)]
        rfl
      · rw [if_neg e, mr_ble_f (show 2 < a by omega)]
        rfl
    rw [eW]
    refine pk_le 3 3 (fun _ => ?_) (fun z => absurd z (by omega))
    unfold wL_two_95
    refine br_c (fun z => mr_p100 ha hb ?_ h H) (fun z => br_c (fun y => mr_p100 ha hb ?_ h H) (fun y => br_c (fun w => mr_p100 ha hb ?_ h H) (fun w => mr_p100 ha hb ?_ h H)))
    · unfold mr_v5; rw [if_pos z]
    · unfold mr_v5; rw [if_neg z, if_pos y]
    · unfold mr_v5; rw [if_neg z, if_neg y, if_pos w]
    · unfold mr_v5; rw [if_neg z, if_neg y, if_neg w]
  · intro n i _ hi _ hw
    have hw' := hw () trivial
    refine pk_le 3 i (fun z => absurd z (by omega)) (fun _ => nm_e (pk_eq i a (fun e => ?_) (fun e => ?_)))
    · subst e
      rw [if_pos (by omega)] at hw'
      exact mr_choose (N := 2) (k := i) (by omega) (by omega) (mr_chooseD (N := 2) (a := b) (b := i) (by omega) (by omega) (by omega) (nm_r (pk_mul _ _) (nm_r (nI_1 i) hw')) rfl)
    · have e2 : (if a < i + 1 then mr_ch 2 a * mr_chd 2 b a else 0) = (if a < i then mr_ch 2 a * mr_chd 2 b a else 0) := by
        by_cases e3 : a < i
        · rw [if_pos e3, if_pos (by omega)]
        · rw [if_neg e3, if_neg (by omega)]
      rw [e2] at hw'
      exact nm_r (nI_1 i) hw'
end
theorem mr_lawTwo {post : Int32 → St2 → Prop} {u : St2} {a b : Nat} (ha : a < 4) (hb : b < 8) (h : mr_R mr_e0 0 u) (H : ∀ u', mr_R mr_e0 0 u' → post 1 u') : wpL_two post u (nI a) (nI b) := by
  obtain ⟨fw, fv, fg, fr, fe, fm, fd, ff, fk, a1, a2, a3, a4, a5, a6, a7, a8, a9, a10⟩ := u
  unfold wpL_two
  dsimp only
  refine mr_show 0 a (cf' := fun i => if i = 0 then a + 1 else 0) h (by omega) (by omega) (fun i hi => rfl) (fun u h => ?_)
  obtain ⟨fw, fv, fg, fr, fe, fm, fd, ff, fk, a1, a2, a3, a4, a5, a6, a7, a8, a9, a10⟩ := u
  refine br_t rfl (mr_show 1 b (cf' := mr_c2 a b) h (by omega) (by omega) (fun i hi => ?_) (fun u h => ?_))
  · show (if i = 0 then a + 1 else if i = 1 then b + 1 else 0) = (if i = 1 then b + 1 else if i = 0 then a + 1 else 0)
    by_cases e : i = 0
    · rw [if_pos e, if_neg (by omega), if_pos e]
    · rw [if_neg e, if_neg e]
  obtain ⟨fw, fv, fg, fr, fe, fm, fd, ff, fk, a1, a2, a3, a4, a5, a6, a7, a8, a9, a10⟩ := u
  exact br_t rfl (mr_p34 ha hb h H)
end
section
/-! the law's last part, and all of it -/
theorem mr_z_0 : mr_z 0 = mr_e0 := by
  funext i
  exact if_neg (by omega)
section
variable {fw fv fg fr fe fm fd ff fk : Int32} {a1 a2 a3 a4 a5 a6 a7 a8 a9 a10 : Nat → Int32}
theorem mr_q281 {post : Int32 → St0 → Prop} {mc ms kc ks : Nat} (h : mr_R mr_z3 1 (fw, fv, fg, fr, fe, fm, fd, ff, fk, a1, a2, a3, a4, a5, a6, a7, a8, a9, a10)) (H : post 1 ()) : wL_lawOf_281 post mc ms 1 kc ks fw fv fg fr fe fm fd ff fk a1 a2 a3 a4 a5 a6 a7 a8 a9 a10 := by
  unfold wL_lawOf_281
  refine br_f (by decide) (mr_showBad (Or.inl (by decide)) ?_)
  refine br_t rfl (mr_showBad (Or.inr ⟨by decide, by decide, Or.inr (by decide)⟩) ?_)
  refine br_t rfl (mr_showBad (Or.inr ⟨by decide, by decide, Or.inl (by decide)⟩) ?_)
  refine br_t rfl (mr_coverBad (Or.inr (by decide)) ?_)
  refine br_t rfl (mr_totalBad (Or.inr (by decide)) ?_)
  refine br_t rfl (mr_totalBad (Or.inl (by decide)) ?_)
  refine br_t rfl (mr_clueBad (Or.inl (by decide)) ?_)
  refine br_t rfl (mr_groupOfBad (Or.inr (by decide)) ?_)
  refine br_t rfl (mr_minedBad (Or.inr (by decide)) ?_)
  refine br_t rfl (mr_cluesBad (Or.inl (by decide)) ?_)
  refine br_t rfl (mr_decidedBad (Or.inr (by decide)) ?_)
  refine br_t rfl (mr_withMinesBad h (Or.inr (by decide)) (fun u h => ?_))
  obtain ⟨fw, fv, fg, fr, fe, fm, fd, ff, fk, a1, a2, a3, a4, a5, a6, a7, a8, a9, a10⟩ := u
  refine br_t rfl (mr_withMinesBad h (Or.inl (by decide)) (fun u h => ?_))
  obtain ⟨fw, fv, fg, fr, fe, fm, fd, ff, fk, a1, a2, a3, a4, a5, a6, a7, a8, a9, a10⟩ := u
  exact br_t rfl H
theorem mr_q73 {post : Int32 → St0 → Prop} {mc ms kc ks : Nat} (h : mr_R mr_e0 0 (fw, fv, fg, fr, fe, fm, fd, ff, fk, a1, a2, a3, a4, a5, a6, a7, a8, a9, a10)) (H : post 1 ()) : ∃ n, wL_lawOf_73 post mc ms kc ks n 1 0 fw fv fg fr fe fm fd ff fk a1 a2 a3 a4 a5 a6 a7 a8 a9 a10 := by
  rw [← mr_z_0] at h
  refine pk_loop (σ := St2) (fun n i t => wL_lawOf_73 post mc ms kc ks n 1 (nI i) t.1 t.2.1 t.2.2.1 t.2.2.2.1 t.2.2.2.2.1 t.2.2.2.2.2.1 t.2.2.2.2.2.2.1 t.2.2.2.2.2.2.2.1 t.2.2.2.2.2.2.2.2.1 t.2.2.2.2.2.2.2.2.2.1 t.2.2.2.2.2.2.2.2.2.2.1 t.2.2.2.2.2.2.2.2.2.2.2.1 t.2.2.2.2.2.2.2.2.2.2.2.2.1 t.2.2.2.2.2.2.2.2.2.2.2.2.2.1 t.2.2.2.2.2.2.2.2.2.2.2.2.2.2.1 t.2.2.2.2.2.2.2.2.2.2.2.2.2.2.2.1 t.2.2.2.2.2.2.2.2.2.2.2.2.2.2.2.2.1 t.2.2.2.2.2.2.2.2.2.2.2.2.2.2.2.2.2.1 t.2.2.2.2.2.2.2.2.2.2.2.2.2.2.2.2.2.2) (fun i t => mr_R (mr_z i) 0 t) 20 0 (fw, fv, fg, fr, fe, fm, fd, ff, fk, a1, a2, a3, a4, a5, a6, a7, a8, a9, a10) (by omega) h ?_ ?_
  · intro n u h
    obtain ⟨fw, fv, fg, fr, fe, fm, fd, ff, fk, a1, a2, a3, a4, a5, a6, a7, a8, a9, a10⟩ := u
    dsimp only
    refine pk_le 20 20 (fun _ => br_f (by decide) ?_) (fun z => absurd z (by omega))
    refine mr_layouts h (fun u h => ?_)
    obtain ⟨fw, fv, fg, fr, fe, fm, fd, ff, fk, a1, a2, a3, a4, a5, a6, a7, a8, a9, a10⟩ := u
    refine br_t (by rw [mr_l_lay 0 (by omega)]; rfl) (mr_best h (fun q hq => mr_l_b q (by omega)) (fun u h => ?_))
    obtain ⟨fw, fv, fg, fr, fe, fm, fd, ff, fk, a1, a2, a3, a4, a5, a6, a7, a8, a9, a10⟩ := u
    refine br_t (by rw [mr_l_bes]; rfl) (mr_withMines 0 h (by omega) (fun u h => ?_))
    obtain ⟨fw, fv, fg, fr, fe, fm, fd, ff, fk, a1, a2, a3, a4, a5, a6, a7, a8, a9, a10⟩ := u
    refine br_t (by rw [mr_l_all]; rfl) (mr_groups h (fun u h => ?_))
    obtain ⟨fw, fv, fg, fr, fe, fm, fd, ff, fk, a1, a2, a3, a4, a5, a6, a7, a8, a9, a10⟩ := u
    refine br_t (by rw [mr_l_gs]; rfl) (mr_simple h mr_l_r1.1 (fun u h => ?_))
    obtain ⟨fw, fv, fg, fr, fe, fm, fd, ff, fk, a1, a2, a3, a4, a5, a6, a7, a8, a9, a10⟩ := u
    refine br_t mr_l_r1.2 (mr_paired h mr_l_r2.1 (fun u h => ?_))
    obtain ⟨fw, fv, fg, fr, fe, fm, fd, ff, fk, a1, a2, a3, a4, a5, a6, a7, a8, a9, a10⟩ := u
    refine br_t mr_l_r2.2 (mr_total 2 h (by omega) (fun u h => ?_))
    obtain ⟨fw, fv, fg, fr, fe, fm, fd, ff, fk, a1, a2, a3, a4, a5, a6, a7, a8, a9, a10⟩ := u
    refine br_t rfl (mr_layouts h (fun u h => ?_))
    obtain ⟨fw, fv, fg, fr, fe, fm, fd, ff, fk, a1, a2, a3, a4, a5, a6, a7, a8, a9, a10⟩ := u
    refine br_t (by rw [mr_l_lay 2 (by omega)]; rfl) (mr_total 1 h (by omega) (fun u h => ?_))
    obtain ⟨fw, fv, fg, fr, fe, fm, fd, ff, fk, a1, a2, a3, a4, a5, a6, a7, a8, a9, a10⟩ := u
    refine br_t rfl (mr_layouts h (fun u h => ?_))
    obtain ⟨fw, fv, fg, fr, fe, fm, fd, ff, fk, a1, a2, a3, a4, a5, a6, a7, a8, a9, a10⟩ := u
    refine br_t (by rw [mr_l_lay 1 (by omega)]; rfl) (mr_show 4 1 (cf' := mr_z4) h (by omega) (by omega) (fun i hi => rfl) (fun u h => ?_))
    obtain ⟨fw, fv, fg, fr, fe, fm, fd, ff, fk, a1, a2, a3, a4, a5, a6, a7, a8, a9, a10⟩ := u
    refine br_t rfl (mr_layouts h (fun u h => ?_))
    obtain ⟨fw, fv, fg, fr, fe, fm, fd, ff, fk, a1, a2, a3, a4, a5, a6, a7, a8, a9, a10⟩ := u
    refine br_t (by rw [mr_l_lay4]; rfl) (mr_simple h mr_l_r3.1 (fun u h => ?_))
    obtain ⟨fw, fv, fg, fr, fe, fm, fd, ff, fk, a1, a2, a3, a4, a5, a6, a7, a8, a9, a10⟩ := u
    refine br_t mr_l_r3.2 (mr_paired h mr_l_r4.1 (fun u h => ?_))
    obtain ⟨fw, fv, fg, fr, fe, fm, fd, ff, fk, a1, a2, a3, a4, a5, a6, a7, a8, a9, a10⟩ := u
    refine br_t mr_l_r4.2.1 (mr_decided 0 h (by omega) mr_l_r4.1 (fun u h => ?_))
    obtain ⟨fw, fv, fg, fr, fe, fm, fd, ff, fk, a1, a2, a3, a4, a5, a6, a7, a8, a9, a10⟩ := u
    refine br_t mr_l_r4.2.2 (mr_cover 3 (cf' := mr_z3) h (by omega) (by decide) (fun i hi => rfl) (fun u h => ?_))
    obtain ⟨fw, fv, fg, fr, fe, fm, fd, ff, fk, a1, a2, a3, a4, a5, a6, a7, a8, a9, a10⟩ := u
    refine br_t rfl (mr_layouts h (fun u h => ?_))
    obtain ⟨fw, fv, fg, fr, fe, fm, fd, ff, fk, a1, a2, a3, a4, a5, a6, a7, a8, a9, a10⟩ := u
    refine br_t (by rw [mr_l_lay3]; rfl) (mr_free h (fun q hq => mr_l_b3 q (by omega)) (fun u h => ?_))
    obtain ⟨fw, fv, fg, fr, fe, fm, fd, ff, fk, a1, a2, a3, a4, a5, a6, a7, a8, a9, a10⟩ := u
    refine br_t (by rw [mr_l_fre]; rfl) (mr_sure h (fun q hq => mr_l_b3 q (by omega)) (fun u h => ?_))
    obtain ⟨fw, fv, fg, fr, fe, fm, fd, ff, fk, a1, a2, a3, a4, a5, a6, a7, a8, a9, a10⟩ := u
    refine br_t (by rw [mr_l_sur]; rfl) (mr_clues 3 h (by omega) rfl mr_l_cb (fun u h => ?_))
    obtain ⟨fw, fv, fg, fr, fe, fm, fd, ff, fk, a1, a2, a3, a4, a5, a6, a7, a8, a9, a10⟩ := u
    exact br_t (by rw [mr_l_cl]; rfl) (mr_q281 h H)
  · intro n i u hi h hw
    obtain ⟨fw, fv, fg, fr, fe, fm, fd, ff, fk, a1, a2, a3, a4, a5, a6, a7, a8, a9, a10⟩ := u
    dsimp only
    refine pk_le 20 i (fun z => absurd z (by omega)) (fun _ => br_f (by decide) ?_)
    refine mr_show i 0 (cf' := mr_z (i + 1)) h hi (by omega) (fun j hj => ?_) (fun u h => ?_)
    · show (if j < i + 1 then 1 else 0) = (if j = i then 0 + 1 else if j < i then 1 else 0)
      by_cases e : j = i
      · rw [if_pos e, if_pos (by omega)]
      · rw [if_neg e]
        by_cases e2 : j < i
        · rw [if_pos e2, if_pos (by omega)]
        · rw [if_neg e2, if_neg (by omega)]
    · have hw' := hw u h
      obtain ⟨yfw, yfv, yfg, yfr, yfe, yfm, yfd, yff, yfk, ya1, ya2, ya3, ya4, ya5, ya6, ya7, ya8, ya9, ya10⟩ := u
      have e : mr_z i i = 0 := if_neg (by omega)
      exact br_t (by rw [e]; rfl) (nm_r (nI_1 i) hw')
end
theorem mr_lawOf {post : Int32 → St0 → Prop} {mc ms : Nat} {x : Int32} (hmc : 11 ≤ mc) (hms : 1443 ≤ ms) (H : post 1 ()) : wpL_lawOf post mc ms () x := by
  have hk : ∃ k : Nat, k < 9 ∧ (x &&& 15) - (x &&& 15) / 9 * 9 = nI k := by
    obtain ⟨j, hj, e⟩ := pk_andE x (m := 15) 4 (by decide)
    rw [e]
    exact ⟨j % 9, Nat.mod_lt _ (by omega), pk_rem (a := j) (d := 9) (by omega) (by omega) (by omega)⟩
  have hn : ∃ n : Nat, n < 21 ∧ ((x >>> ((4 : Int32) &&& 31)) &&& 31) - ((x >>> ((4 : Int32) &&& 31)) &&& 31) / 21 * 21 = nI n := by
    obtain ⟨j, hj, e⟩ := pk_andE (x >>> ((4 : Int32) &&& 31)) (m := 31) 5 (by decide)
    rw [e]
    exact ⟨j % 21, Nat.mod_lt _ (by omega), pk_rem (a := j) (d := 21) (by omega) (by omega) (by omega)⟩
  obtain ⟨k, hk9, ek⟩ := hk
  obtain ⟨n, hn21, en⟩ := hn
  obtain ⟨a, ha, ea⟩ := pk_andE (x >>> ((9 : Int32) &&& 31)) (m := 3) 2 (by decide)
  obtain ⟨b, hb, eb⟩ := pk_andE (x >>> ((11 : Int32) &&& 31)) (m := 7) 3 (by decide)
  refine ⟨by omega, by omega, 10, 1424, by omega, by omega, mr_init (by omega) (by omega) (fun u h => ?_)⟩
  obtain ⟨fw, fv, fg, fr, fe, fm, fd, ff, fk, a1, a2, a3, a4, a5, a6, a7, a8, a9, a10⟩ := u
  refine ⟨by decide, nm_r ek ⟨by decide, nm_r en (nm_r ea (nm_r eb ?_))⟩⟩
  refine mr_lawOne hk9 hn21 h (fun u h => ?_)
  obtain ⟨fw, fv, fg, fr, fe, fm, fd, ff, fk, a1, a2, a3, a4, a5, a6, a7, a8, a9, a10⟩ := u
  refine br_f (by decide) (mr_lawTwo ha hb h (fun u h => ?_))
  obtain ⟨fw, fv, fg, fr, fe, fm, fd, ff, fk, a1, a2, a3, a4, a5, a6, a7, a8, a9, a10⟩ := u
  exact br_f (by decide) (mr_q73 h H)
theorem i_vc (xs : Nat → Int32) (L : Nat) (hL : L ≤ 1) : wpL_law (fun r => r = 1) L xs := by
  have fin : ∀ x : Int32, ∃ mc_3 ms_4 : Nat, 0 + mc_3 ≤ 746 ∧ 0 + ms_4 ≤ 11920 ∧ (wpL_lawOf (fun r_2 _ => r_2 = 1) mc_3 ms_4 () x) := fun x => ⟨746, 11920, by omega, by omega, mr_lawOf (by omega) (by omega) rfl⟩
  exact pk_le L 0 (fun _ => fin 0) (fun z => ⟨pk_in 0 L z, fin _⟩)
end
