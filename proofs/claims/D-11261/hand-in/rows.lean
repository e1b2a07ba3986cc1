section
/-- a place of a table of naturals written -/
def be_u (f : Nat → Nat) (i x : Nat) : Nat → Nat := fun j => cond (Nat.beq j i) x (f j)
/-- a field of the naturals replaced -/
def be_fs (N : Nat → Nat → Nat) (f : Nat) (g : Nat → Nat) : Nat → Nat → Nat := fun h => cond (Nat.beq h f) g (N h)
/-- a field of the data replaced -/
def be_vs (V : Nat → Nat → Int32) (f : Nat) (g : Nat → Int32) : Nat → Nat → Int32 := fun h => cond (Nat.beq h f) g (V h)
abbrev be_up (N : Nat → Nat → Nat) (f i x : Nat) : Nat → Nat → Nat := be_fs N f (be_u (N f) i x)
abbrev be_vp (V : Nat → Nat → Int32) (f i : Nat) (x : Int32) : Nat → Nat → Int32 := be_vs V f (upd (V f) i x)
/-- from whom a read came: 0 is nobody -/
def be_fr (n : Nat) : Int32 := nI n - 1
abbrev be_cn (N : Nat → Nat → Nat) (V : Nat → Nat → Int32) : St2 := ((nI (N 0 0)), (nI (N 0 1)), (nI (N 0 2)), (nI (N 0 3)), (nI (N 0 4)), (V 0 5), (nI (N 0 6)), (nI (N 0 7)), (V 1), (fun j => nI (N 2 j)), (fun j => nI (N 3 j)), (fun j => nI (N 4 j)), (V 5), (V 6), (fun j => nI (N 7 j)), (fun j => nI (N 8 j)), (fun j => nI (N 9 j)), (fun j => nI (N 10 j)), (fun j => nI (N 11 j)), (fun j => nI (N 12 j)), (fun j => nI (N 13 j)), (fun j => be_fr (N 14 j)), (fun j => nI (N 15 j)), (fun j => nI (N 16 j)), (fun j => nI (N 17 j)), (V 18), (fun j => nI (N 19 j)), (fun j => nI (N 20 j)), (fun j => nI (N 21 j)), (fun j => nI (N 22 j)), (V 23), (fun j => nI (N 24 j)), (V 25), (fun j => nI (N 26 j)))
theorem be_u_eq (f : Nat → Nat) (i x j : Nat) : be_u f i x j = if j = i then x else f j := by
  unfold be_u
  cases hb : Nat.beq j i
  · have := Nat.ne_of_beq_eq_false hb
    rw [if_neg this]
    rfl
  · have := Nat.eq_of_beq_eq_true hb
    rw [if_pos this]
    rfl
theorem be_us {f : Nat → Nat} {i x : Nat} : be_u f i x i = x := by rw [be_u_eq, if_pos rfl]
theorem be_un {f : Nat → Nat} {i x j : Nat} (h : j ≠ i) : be_u f i x j = f j := by rw [be_u_eq, if_neg h]
theorem be_fr_0 : be_fr 0 = -1 := by decide
theorem be_fr_s (n : Nat) : be_fr (n + 1) = nI n := nI_pred n
theorem be_fr_pos {n : Nat} (h : n ≠ 0) : be_fr n = nI (n - 1) := by
  obtain ⟨m, rfl⟩ : ∃ m, n = m + 1 := ⟨n - 1, by omega⟩
  rw [be_fr_s]
  rfl
theorem be_fr_m1 (n : Nat) : nI n + (-1) = be_fr n := by
  unfold be_fr
  rw [Int32.sub_eq_add_neg]
theorem be_fr_inj {a b : Nat} (ha : a < 2 ^ 31) (hb : b < 2 ^ 31) : be_fr a = be_fr b ↔ a = b := by
  unfold be_fr
  constructor
  · intro h
    have h2 : nI a = nI b := by
      have := congrArg (· + 1) h
      simpa [Int32.sub_add_cancel] using this
    exact (nI_eq ha hb).mp h2
  · intro h
    rw [h]
theorem be_fr_neg : be_fr 0 < 0 := by decide
theorem be_fr_nneg {n : Nat} (h : n ≠ 0) (hn : n < 2 ^ 31) : ¬ be_fr n < 0 := by
  rw [be_fr_pos h]
  exact nI_pos (by omega)
theorem be_ust (f : Nat → Nat) (k x : Nat) : upd (fun j => nI (f j)) k (nI x) = fun j => nI (be_u f k x j) := by
  funext j
  rw [be_u_eq]
  unfold upd
  by_cases h : j = k
  · rw [if_pos h, if_pos h]
  · rw [if_neg h, if_neg h]
theorem be_ufr (f : Nat → Nat) (k x : Nat) : upd (fun j => be_fr (f j)) k (be_fr x) = fun j => be_fr (be_u f k x j) := by
  funext j
  rw [be_u_eq]
  unfold upd
  by_cases h : j = k
  · rw [if_pos h, if_pos h]
  · rw [if_neg h, if_neg h]
/-- a store of a small natural -/
theorem be_st {P : (Nat → Int32) → Prop} {f : Nat → Nat} {i v : Int32} (k x : Nat) (h : P (fun j => nI (be_u f k x j))) (hk : i = nI k := by rfl) (hv : v = nI x := by rfl) (hb : k < 2 ^ 31 := by omega) : ∀ a, a = upd (fun j => nI (f j)) i.toNatClampNeg v → P a := by
  intro a ha
  rw [ha, hk, nI_clamp hb, hv, be_ust]
  exact h
theorem be_stf {P : (Nat → Int32) → Prop} {f : Nat → Nat} {i v : Int32} (k x : Nat) (h : P (fun j => be_fr (be_u f k x j))) (hk : i = nI k := by rfl) (hv : v = be_fr x := by rfl) (hb : k < 2 ^ 31 := by omega) : ∀ a, a = upd (fun j => be_fr (f j)) i.toNatClampNeg v → P a := by
  intro a ha
  rw [ha, hk, nI_clamp hb, hv, be_ufr]
  exact h
/-- a store of data -/
theorem be_sv {P : (Nat → Int32) → Prop} {f : Nat → Int32} {i v : Int32} (k : Nat) (x : Int32) (h : P (upd f k x)) (hk : i = nI k := by rfl) (hv : v = x := by rfl) (hb : k < 2 ^ 31 := by omega) : ∀ a, a = upd f i.toNatClampNeg v → P a := by
  intro a ha
  rw [ha, hk, nI_clamp hb, hv]
  exact h
theorem be_in {n N : Nat} (h : n < N) (hN : N < 2 ^ 31 := by omega) : vp_in (nI n) N := vp_in_nI h hN
/-! bits -/
theorem be_b5 : ∀ n, n < 32 → ((nI n &&& 31).toBitVec.smod 32).toNat = n := by decide +kernel
theorem be_bit {m c : Nat} (hm : m < 2 ^ 31) (hc : c < 32) : ((nI m) >>> (nI c &&& 31)) &&& 1 = nI (m / 2 ^ c % 2) := by
  rw [pk_shrN hm _ c (be_b5 c hc)]
  have h : m / 2 ^ c < 2 ^ 32 := by
    have := Nat.div_le_self m (2 ^ c)
    omega
  exact pk_andN h 1 (by decide)
theorem be_br {m c : Nat} {x y : Int32} {A B : Prop} (f : m / 2 ^ c % 2 = 1 → A) (g : ¬ m / 2 ^ c % 2 = 1 → B) (hm : m < 2 ^ 31) (hc : c < 32) (hx : x = nI m := by rfl) (hy : y = nI c := by rfl) : ((x >>> (y &&& 31)) &&& 1 = 1 → A) ∧ (¬ (x >>> (y &&& 31)) &&& 1 = 1 → B) := by
  subst hx hy
  rw [be_bit hm hc]
  have h2 : m / 2 ^ c % 2 < 2 := Nat.mod_lt _ (by decide)
  exact pk_eq (m / 2 ^ c % 2) 1 f g rfl rfl (by omega) (by omega)
theorem be_bv (a : Nat) : (nI a).toBitVec = BitVec.ofNat 32 a := rfl
theorem be_or (a b : Nat) : nI a ||| nI b = nI (a ||| b) := by
  apply Int32.toBitVec_inj.mp
  rw [Int32.toBitVec_or, be_bv, be_bv, be_bv]
  exact (BitVec.ofNat_or).symm
theorem be_shl1 {c : Nat} (hc : c < 31) : (1 : Int32) <<< (nI c &&& 31) = nI (2 ^ c) := by
  have h : (2 : Nat) ^ c < 2 ^ 31 := Nat.pow_lt_pow_right (by decide) hc
  have := pk_shlN (n := 1) (nI c &&& 31) c (be_b5 c (by omega)) (by omega)
  rw [Nat.one_mul] at this
  exact this
/-- bits of a mask with one more -/
theorem be_or_bit (m c j : Nat) : (m ||| 2 ^ c) / 2 ^ j % 2 = 1 ↔ (m / 2 ^ j % 2 = 1 ∨ j = c) := by
  have e : ∀ n, (n / 2 ^ j % 2 = 1) ↔ n.testBit j = true := by
    intro n
    rw [Nat.testBit_eq_decide_div_mod_eq]
    simp
  rw [e, e, Nat.testBit_or, Nat.testBit_two_pow, Bool.or_eq_true, decide_eq_true_eq]
  exact ⟨fun h => h.elim Or.inl (fun z => Or.inr z.symm), fun h => h.elim Or.inl (fun z => Or.inr z.symm)⟩
theorem be_bit0 (j : Nat) : ¬ (0 / 2 ^ j % 2 = 1) := by simp
theorem be_bit1 (c j : Nat) : (2 ^ c) / 2 ^ j % 2 = 1 ↔ j = c := by
  have := be_or_bit 0 c j
  rw [Nat.zero_or] at this
  rw [this]
  simp
end
section
/-- the newest before t that has a version of cell c, plus one; 0: nobody -/
def be_nw (c : Nat) (wr : Nat → Nat) : Nat → Nat
  | 0 => 0
  | t + 1 => if wr t / 2 ^ c % 2 = 1 then t + 1 else be_nw c wr t
theorem be_nw_le (c : Nat) (wr : Nat → Nat) (t : Nat) : be_nw c wr t ≤ t := by
  induction t with
  | zero => exact Nat.le_refl 0
  | succ t ih =>
    unfold be_nw
    split
    · exact Nat.le_refl _
    · omega
theorem be_of32 (x : Int32) : ∃ n : Nat, n < 2 ^ 32 ∧ x = nI n := by
  refine ⟨x.toBitVec.toNat, x.toBitVec.isLt, ?_⟩
  apply Int32.toBitVec_inj.mp
  rw [be_bv]
  simp
theorem be_newestL {post : Int32 → Prop} {N : Nat → Nat → Nat} {V : Nat → Nat → Int32} {c : Nat} (hc : c < 16) (hB : ∀ f j, N f j < 1048576) : ∀ t, t ≤ 8 → ∀ n, t < n → post (be_fr (be_nw c (N 8) t)) → wX_newestBefore_4 post (nI c) (nI (N 0 0)) (nI (N 0 1)) (nI (N 0 2)) (nI (N 0 3)) (nI (N 0 4)) (V 0 5) (nI (N 0 6)) (nI (N 0 7)) (V 1) (fun j => nI (N 2 j)) (fun j => nI (N 3 j)) (fun j => nI (N 4 j)) (V 5) (V 6) (fun j => nI (N 7 j)) (fun j => nI (N 8 j)) (fun j => nI (N 9 j)) (fun j => nI (N 10 j)) (fun j => nI (N 11 j)) (fun j => nI (N 12 j)) (fun j => nI (N 13 j)) (fun j => be_fr (N 14 j)) (fun j => nI (N 15 j)) (fun j => nI (N 16 j)) (fun j => nI (N 17 j)) (V 18) (fun j => nI (N 19 j)) (fun j => nI (N 20 j)) (fun j => nI (N 21 j)) (fun j => nI (N 22 j)) (V 23) (fun j => nI (N 24 j)) (V 25) (fun j => nI (N 26 j)) n (be_fr t) := by
  intro t
  induction t with
  | zero =>
    intro _ n hn hp
    obtain ⟨n, rfl⟩ : ∃ m, n = m + 1 := ⟨n - 1, by omega⟩
    have hp' : post (be_fr 0) := hp
    rw [be_fr_0] at hp'
    exact br_t be_fr_neg hp'
  | succ t ih =>
    intro ht n hn hp
    obtain ⟨n, rfl⟩ : ∃ m, n = m + 1 := ⟨n - 1, by omega⟩
    rw [be_fr_s]
    unfold wX_newestBefore_4
    rw [nI_clamp (show t < 2 ^ 31 by omega)]
    have hb := hB 8 t
    refine br_f (nI_pos (by omega)) ⟨pk_in t 8 (by omega), be_br (m := N 8 t) (c := c) (fun h => ?_) (fun h => ?_) (by omega) (by omega)⟩
    · have e : be_nw c (N 8) (t + 1) = t + 1 := if_pos h
      rw [e, be_fr_s] at hp
      exact hp
    · have e : be_nw c (N 8) (t + 1) = be_nw c (N 8) t := if_neg h
      rw [e] at hp
      exact nm_r (be_fr_m1 t) (ih (by omega) n (by omega) hp)
theorem be_newest {post : Int32 → Prop} {N : Nat → Nat → Nat} {V : Nat → Nat → Int32} {c t : Nat} (hc : c < 16) (ht : t ≤ 8) (hB : ∀ f j, N f j < 1048576) (hp : post (be_fr (be_nw c (N 8) t))) : wpX_newestBefore post (be_cn N V) (nI c) (nI t) := by
  unfold wpX_newestBefore be_cn
  exact nm_r (e' := be_fr t) rfl ⟨t + 1, be_newestL hc hB t ht _ (by omega) hp⟩
/-- nothing is left to do -/
def be_AD (N : Nat → Nat → Nat) : Prop := N 0 0 ≤ N 0 3 ∧ N 0 0 ≤ N 0 4 ∧ ∀ w, w < N 0 2 → N 19 w = 0
theorem be_done {post : Int32 → Prop} {N : Nat → Nat → Nat} {V : Nat → Nat → Int32} (hB : ∀ f j, N f j < 1048576) (hW : N 0 2 ≤ 6) (h1 : be_AD N → post 1) (h0 : ¬ be_AD N → post 0) : wpX_isAllDone post (be_cn N V) := by
  have b0 := hB 0 0
  have b3 := hB 0 3
  have b4 := hB 0 4
  unfold wpX_isAllDone be_cn
  refine pk_lt (N 0 3) (N 0 0) (fun h => h0 (fun z => by have := z.1; omega)) (fun h3 => ?_)
  refine pk_le (N 0 0) (N 0 4) (fun h4 => ?_) (fun h => h0 (fun z => by have := z.2.1; omega))
  exact loop_m (σ := Nat) (fun n i => wX_isAllDone_26 post (nI (N 0 0)) (nI (N 0 1)) (nI (N 0 2)) (nI (N 0 3)) (nI (N 0 4)) (V 0 5) (nI (N 0 6)) (nI (N 0 7)) (V 1) (fun j => nI (N 2 j)) (fun j => nI (N 3 j)) (fun j => nI (N 4 j)) (V 5) (V 6) (fun j => nI (N 7 j)) (fun j => nI (N 8 j)) (fun j => nI (N 9 j)) (fun j => nI (N 10 j)) (fun j => nI (N 11 j)) (fun j => nI (N 12 j)) (fun j => nI (N 13 j)) (fun j => be_fr (N 14 j)) (fun j => nI (N 15 j)) (fun j => nI (N 16 j)) (fun j => nI (N 17 j)) (V 18) (fun j => nI (N 19 j)) (fun j => nI (N 20 j)) (fun j => nI (N 21 j)) (fun j => nI (N 22 j)) (V 23) (fun j => nI (N 24 j)) (V 25) (fun j => nI (N 26 j)) n (nI i)) (fun i => i ≤ N 0 2 ∧ ∀ w, w < i → N 19 w = 0) (fun i => N 0 2 - i)
    (fun n i hI hk => pk_le (N 0 2) i (fun h => h1 ⟨h3, h4, fun w hw => hI.2 w (by omega)⟩)
      (fun h => ⟨pk_in i 6 (by omega), pk_eq (N 19 i) 0
        (fun z => nm_r (nI_1 i) (hk (i + 1) ⟨by omega, fun w hw => by
          rcases Nat.lt_or_ge w i with q | q
          · exact hI.2 w q
          · have : w = i := by omega
            rw [this]; exact z⟩ (by omega)))
        (fun z => h0 (fun q => z (q.2.2 i (by omega)))) (by rw [nI_clamp (by omega)]) rfl (by have := hB 19 i; omega) (by omega)⟩) rfl rfl (by omega) (by omega))
    0 ⟨by omega, fun w hw => absurd hw (by omega)⟩
theorem be_next {post : Int32 → St2 → Prop} {N : Nat → Nat → Nat} {V : Nat → Nat → Int32} (hB : ∀ f j, N f j < 1048576) (hW : 1 ≤ N 0 2)
    (H : ∀ w x, w < N 0 2 → ((N 0 6 + 1) % 4 = 0 → w = (N 0 6 + 1) / 4 % N 0 2) → post (nI w) (be_cn (be_up N 0 6 (N 0 6 + 1)) (be_vs V 0 (fun _ => x)))) : wpX_nextWorker post (be_cn N V) := by
  have b2 := hB 0 2
  have b6 := hB 0 6
  unfold wpX_nextWorker be_cn
  have hw0 : ¬ nI (N 0 2) = 0 := nI_ne0 (by omega) (by omega)
  refine nm_r (nI_1 (N 0 6)) (nm_e ⟨hw0, ?_⟩)
  generalize hx : V 0 5 * 1103515245 + 12345 = x
  obtain ⟨m, hm, em⟩ := be_of32 x
  have hq : m / 2 ^ 16 < 2 ^ 31 := by omega
  refine nm_r (e' := nI (m / 2 ^ 16 % N 0 2)) ?_ ?_
  · rw [em, pk_ushrN hm 16 16 (by decide), pk_rem hq (by omega) (by omega)]
  · refine pk_eq ((N 0 6 + 1) % 4) 0 (fun h => ⟨hw0, ?_⟩) (fun h => ?_) (pk_andN (by omega) 2 (by decide)) rfl (by omega) (by omega)
    · rw [pk_shrN (show N 0 6 + 1 < 2 ^ 31 by omega) _ 2 (by decide), pk_rem (by omega) (by omega) (by omega)]
      exact H _ x (Nat.mod_lt _ (by omega)) (fun _ => rfl)
    · exact H _ x (Nat.mod_lt _ (by omega)) (fun z => absurd z h)
theorem be_vat {post : Int32 → Prop} {c t : Nat} (hp : post (nI (8 * c + t))) : wpX_versionAt post () (nI c) (nI t) := by
  unfold wpX_versionAt
  have e : (8 : Int32) * nI c + nI t = nI (8 * c + t) := by
    rw [show (8 : Int32) = nI 8 from rfl, pk_mul, nI_add]
  rw [e]
  exact hp
theorem be_storeFrom {post : St2 → Prop} {N : Nat → Nat → Nat} {V : Nat → Nat → Int32} {w c : Nat} {x : Int32} (hB : ∀ f j, N f j < 1048576) (hw : w < 6) (hc : c < 16)
    (H : post (be_cn (be_up N 24 w (N 24 w ||| 2 ^ c)) (be_vp V 25 (16 * w + c) x))) : wpX_storeFrom post (be_cn N V) (nI w) (nI c) x := by
  unfold wpX_storeFrom be_cn
  dsimp only
  rw [nI_clamp (show w < 2 ^ 31 by omega)]
  have e : (16 : Int32) * nI w + nI c = nI (16 * w + c) := by
    rw [show (16 : Int32) = nI 16 from rfl, pk_mul, nI_add]
  rw [e]
  refine ⟨pk_in w 6 hw, pk_in w 6 hw, nm_r (e' := fun j => nI (be_u (N 24) w (N 24 w ||| 2 ^ c) j)) ?_ ⟨pk_in (16 * w + c) 96 (by omega), be_sv (16 * w + c) x H⟩⟩
  rw [be_shl1 (by omega), be_or, be_ust]
theorem be_beginCheck {post : St2 → Prop} {N : Nat → Nat → Nat} {V : Nat → Nat → Int32} {w t : Nat} (hw : w < 6) (ht : t < 8)
    (H : post (be_cn (be_up (be_up (be_up N 19 w 2) 20 w t) 21 w (N 10 t)) V)) : wpX_beginCheck post (be_cn N V) (nI w) (nI t) := by
  unfold wpX_beginCheck be_cn
  exact ⟨pk_in w 6 hw, be_st w 2 ⟨pk_in w 6 hw, be_st w t ⟨pk_in t 8 ht, pk_in w 6 hw, be_st w (N 10 t) H rfl (by rw [nI_clamp (by omega)])⟩⟩⟩
theorem be_makeReady {post : St2 → Prop} {N : Nat → Nat → Nat} {V : Nat → Nat → Int32} {t : Nat} (hB : ∀ f j, N f j < 1048576) (ht : t < 8)
    (H : post (be_cn (be_up (be_up (be_up N 9 t 0) 10 t (N 10 t + 1)) 0 3 (min (N 0 3) t)) V)) : wpX_makeReady post (be_cn N V) (nI t) := by
  have b3 := hB 0 3
  unfold wpX_makeReady be_cn
  refine ⟨pk_in t 8 ht, be_st t 0 ⟨pk_in t 8 ht, pk_in t 8 ht, be_st t (N 10 t + 1) ?_ rfl (by rw [nI_clamp (by omega), nI_1])⟩⟩
  refine pk_le (N 0 3) t (fun h => ?_) (fun h => ?_)
  · rw [Nat.min_eq_left h] at H
    exact H
  · rw [Nat.min_eq_right (by omega)] at H
    exact H
end
section
theorem be_mulAdd (k w c : Nat) : nI k * nI w + nI c = nI (k * w + c) := by rw [pk_mul, nI_add]
theorem be_readInto {post : Int32 → St2 → Prop} {N : Nat → Nat → Nat} {V : Nat → Nat → Int32} {w c r t : Nat} (hB : ∀ f j, N f j < 1048576) (hw : w < 6) (hc : c < 16) (hr : r < 24) (ht : N 20 w = t) (ht8 : t < 8) (hrc : N 12 t < 12) (hs : ¬ N 24 w / 2 ^ c % 2 = 1)
    (Hw : ∀ f, f < t → be_nw c (N 8) t = f + 1 → N 9 f ≠ 2 → post 0 (be_cn (be_up (be_up (be_up N 11 f (N 11 f ||| 2 ^ t)) 9 t 3) 19 w 0) V))
    (H0 : be_nw c (N 8) t = 0 → post 1 (be_cn (be_up (be_up (be_up (be_up N 13 (12 * t + N 12 t) c) 14 (12 * t + N 12 t) 0) 15 (12 * t + N 12 t) 0) 12 t (N 12 t + 1)) (be_vp V 23 r (V 1 c))))
    (H1 : ∀ f, f < t → be_nw c (N 8) t = f + 1 → N 9 f = 2 → post 1 (be_cn (be_up (be_up (be_up (be_up N 13 (12 * t + N 12 t) c) 14 (12 * t + N 12 t) (f + 1)) 15 (12 * t + N 12 t) (N 7 (8 * c + f))) 12 t (N 12 t + 1)) (be_vp V 23 r (V 6 (8 * c + f))))) :
    wpX_readInto post (be_cn N V) (nI w) (nI c) (nI r) := by
  have b24 := hB 24 w
  unfold wpX_readInto be_cn
  dsimp only
  rw [nI_clamp (show w < 2 ^ 31 by omega), ht]
  refine ⟨pk_in w 6 hw, nm_e ⟨pk_in w 6 hw, be_br (m := N 24 w) (c := c) (fun h => absurd h hs) (fun _ => ?_) (by omega) (by omega)⟩⟩
  have e6 : (12 : Int32) * nI t + nI (N 12 t) = nI (12 * t + N 12 t) := be_mulAdd 12 t _
  refine be_newest (N := N) (V := V) hc (by omega) hB ?_
  have hle := be_nw_le c (N 8) t
  by_cases hn : be_nw c (N 8) t = 0
  · rw [hn]
    refine br_t be_fr_neg ?_
    unfold wX_readInto_97
    rw [nI_clamp (show t < 2 ^ 31 by omega), e6]
    refine ⟨pk_in t 8 ht8, nm_e ⟨be_in (by omega), be_st (12 * t + N 12 t) c ⟨be_in (by omega), be_stf (12 * t + N 12 t) 0 (br_f (by decide) ?_)⟩⟩⟩
    unfold wX_readInto_155
    rw [nI_clamp (show t < 2 ^ 31 by omega), nI_clamp (show c < 2 ^ 31 by omega)]
    refine ⟨be_in (by omega), be_st (12 * t + N 12 t) 0 ⟨pk_in t 8 ht8, pk_in t 8 ht8, nm_r (e' := fun j => nI (be_u (N 12) t (N 12 t + 1) j)) ?_ (br_f (by decide) ⟨pk_in c 16 hc, pk_in r 24 hr, be_sv r (V 1 c) (H0 hn)⟩)⟩⟩
    rw [nI_1, be_ust]
  · obtain ⟨f, hf⟩ : ∃ f, be_nw c (N 8) t = f + 1 := ⟨be_nw c (N 8) t - 1, by omega⟩
    have hft : f < t := by omega
    have b9 := hB 9 f
    rw [hf]
    refine br_f (be_fr_nneg (by omega) (by omega)) ?_
    rw [be_fr_s, nI_clamp (show f < 2 ^ 31 by omega)]
    refine ⟨pk_in f 8 (by omega), pk_eq (N 9 f) 2 (fun h => ?_) (fun h => ?_)⟩
    · unfold wX_readInto_97
      rw [nI_clamp (show t < 2 ^ 31 by omega), e6]
      refine ⟨pk_in t 8 ht8, nm_e ⟨be_in (by omega), be_st (12 * t + N 12 t) c ⟨be_in (by omega), be_stf (12 * t + N 12 t) (f + 1) (br_t (nI_pos' (by omega)) (be_vat ⟨pk_in (8 * c + f) 128 (by omega), ?_⟩)) rfl (be_fr_s f).symm⟩⟩⟩
      rw [nI_clamp (show 8 * c + f < 2 ^ 31 by omega)]
      unfold wX_readInto_155
      rw [nI_clamp (show t < 2 ^ 31 by omega)]
      refine ⟨be_in (by omega), be_st (12 * t + N 12 t) (N 7 (8 * c + f)) ⟨pk_in t 8 ht8, pk_in t 8 ht8, nm_r (e' := fun j => nI (be_u (N 12) t (N 12 t + 1) j)) ?_ (br_t (nI_pos' (by omega)) (be_vat ⟨pk_in (8 * c + f) 128 (by omega), pk_in r 24 hr, be_sv r (V 6 (8 * c + f)) (H1 f hft hf h) rfl (by rw [nI_clamp (by omega)])⟩))⟩⟩
      rw [nI_1, be_ust]
    · rw [be_shl1 (show t < 31 by omega), be_or]
      exact ⟨pk_in f 8 (by omega), pk_in f 8 (by omega), nm_r (be_ust _ _ _) ⟨pk_in t 8 ht8, be_st t 3 ⟨pk_in w 6 hw, nm_r (be_ust (N 19) w 0) (Hw f hft hf h)⟩⟩⟩
/-- what a worker stored become versions: the values, the turns -/
def be_av (S t w : Nat) (sv vv : Nat → Int32) : Nat → (Nat → Int32)
  | 0 => vv
  | c + 1 => if S / 2 ^ c % 2 = 1 then upd (be_av S t w sv vv c) (8 * c + t) (sv (16 * w + c)) else be_av S t w sv vv c
def be_at (S t x : Nat) (vt : Nat → Nat) : Nat → (Nat → Nat)
  | 0 => vt
  | c + 1 => if S / 2 ^ c % 2 = 1 then be_u (be_at S t x vt c) (8 * c + t) x else be_at S t x vt c
/-- a cell is among S that is not in m -/
def be_new (S m : Nat) : Prop := ¬ nI S &&& (nI m ^^^ (-1)) = 0
theorem be_app43 {post : Int32 → St2 → Prop} {N : Nat → Nat → Nat} {V : Nat → Nat → Int32} {w t S : Nat} {x4 : Int32} (hw : w < 6) (ht : t < 8) (hS : S < 2 ^ 31) (hx : narrow .boolean (.int x4) = .int x4)
    (H : post x4 (be_cn (be_fs (be_up N 8 t S) 7 (be_at S t (N 10 t) (N 7) 16)) (be_vs V 6 (be_av S t w (V 25) (V 6) 16)))) :
    ∀ k c, c + k = 16 → ∀ n, k < n → wX_applyStores_43 post (nI w) (nI t) (nI S) x4 (nI (N 0 0)) (nI (N 0 1)) (nI (N 0 2)) (nI (N 0 3)) (nI (N 0 4)) (V 0 5) (nI (N 0 6)) (nI (N 0 7)) n (nI c) ((be_vs V 6 (be_av S t w (V 25) (V 6) c)) 1) (fun j => nI ((be_fs N 7 (be_at S t (N 10 t) (N 7) c)) 2 j)) (fun j => nI ((be_fs N 7 (be_at S t (N 10 t) (N 7) c)) 3 j)) (fun j => nI ((be_fs N 7 (be_at S t (N 10 t) (N 7) c)) 4 j)) ((be_vs V 6 (be_av S t w (V 25) (V 6) c)) 5) ((be_vs V 6 (be_av S t w (V 25) (V 6) c)) 6) (fun j => nI ((be_fs N 7 (be_at S t (N 10 t) (N 7) c)) 7 j)) (fun j => nI ((be_fs N 7 (be_at S t (N 10 t) (N 7) c)) 8 j)) (fun j => nI ((be_fs N 7 (be_at S t (N 10 t) (N 7) c)) 9 j)) (fun j => nI ((be_fs N 7 (be_at S t (N 10 t) (N 7) c)) 10 j)) (fun j => nI ((be_fs N 7 (be_at S t (N 10 t) (N 7) c)) 11 j)) (fun j => nI ((be_fs N 7 (be_at S t (N 10 t) (N 7) c)) 12 j)) (fun j => nI ((be_fs N 7 (be_at S t (N 10 t) (N 7) c)) 13 j)) (fun j => be_fr ((be_fs N 7 (be_at S t (N 10 t) (N 7) c)) 14 j)) (fun j => nI ((be_fs N 7 (be_at S t (N 10 t) (N 7) c)) 15 j)) (fun j => nI ((be_fs N 7 (be_at S t (N 10 t) (N 7) c)) 16 j)) (fun j => nI ((be_fs N 7 (be_at S t (N 10 t) (N 7) c)) 17 j)) ((be_vs V 6 (be_av S t w (V 25) (V 6) c)) 18) (fun j => nI ((be_fs N 7 (be_at S t (N 10 t) (N 7) c)) 19 j)) (fun j => nI ((be_fs N 7 (be_at S t (N 10 t) (N 7) c)) 20 j)) (fun j => nI ((be_fs N 7 (be_at S t (N 10 t) (N 7) c)) 21 j)) (fun j => nI ((be_fs N 7 (be_at S t (N 10 t) (N 7) c)) 22 j)) ((be_vs V 6 (be_av S t w (V 25) (V 6) c)) 23) (fun j => nI ((be_fs N 7 (be_at S t (N 10 t) (N 7) c)) 24 j)) ((be_vs V 6 (be_av S t w (V 25) (V 6) c)) 25) (fun j => nI ((be_fs N 7 (be_at S t (N 10 t) (N 7) c)) 26 j)) := by
  intro k
  induction k with
  | zero =>
    intro c hc n hn
    obtain ⟨n, rfl⟩ : ∃ m, n = m + 1 := ⟨n - 1, by omega⟩
    have hc' : c = 16 := by omega
    subst hc'
    refine pk_le 16 16 (fun _ => ?_) (fun h => absurd h (by omega))
    exact ⟨pk_in t 8 ht, be_st t S ⟨hx, H⟩⟩
  | succ k ih =>
    intro c hc n hn
    obtain ⟨n, rfl⟩ : ∃ m, n = m + 1 := ⟨n - 1, by omega⟩
    have ih' := ih (c + 1) (by omega) n (by omega)
    refine pk_le 16 c (fun h => absurd h (by omega)) (fun _ => be_br (m := S) (c := c) (fun h => ?_) (fun h => ?_) hS (by omega))
    · have e6 : be_av S t w (V 25) (V 6) (c + 1) = upd (be_av S t w (V 25) (V 6) c) (8 * c + t) (V 25 (16 * w + c)) := if_pos h
      have e7 : be_at S t (N 10 t) (N 7) (c + 1) = be_u (be_at S t (N 10 t) (N 7) c) (8 * c + t) (N 10 t) := if_pos h
      rw [e6, e7] at ih'
      have e : (16 : Int32) * nI w + nI c = nI (16 * w + c) := be_mulAdd 16 w c
      rw [e]
      exact be_vat ⟨pk_in (16 * w + c) 96 (by omega), pk_in (8 * c + t) 128 (by omega), be_sv (8 * c + t) (V 25 (16 * w + c)) ⟨pk_in t 8 ht, pk_in (8 * c + t) 128 (by omega), be_st (8 * c + t) (N 10 t) (nm_r (nI_1 c) ih') rfl (by rw [nI_clamp (by omega)]; rfl)⟩ rfl (by rw [nI_clamp (by omega)]; rfl)⟩
    · have e6 : be_av S t w (V 25) (V 6) (c + 1) = be_av S t w (V 25) (V 6) c := if_neg h
      have e7 : be_at S t (N 10 t) (N 7) (c + 1) = be_at S t (N 10 t) (N 7) c := if_neg h
      rw [e6, e7] at ih'
      exact nm_r (nI_1 c) ih'
theorem be_apply {post : Int32 → St2 → Prop} {N : Nat → Nat → Nat} {V : Nat → Nat → Int32} {w t S : Nat} (hB : ∀ f j, N f j < 1048576) (hw : w < 6) (ht : t < 8) (hS : S = if N 26 w = 0 then N 24 w else 0)
    (H0 : ¬ be_new S (N 8 t) → post 0 (be_cn (be_fs (be_up N 8 t S) 7 (be_at S t (N 10 t) (N 7) 16)) (be_vs V 6 (be_av S t w (V 25) (V 6) 16))))
    (H1 : be_new S (N 8 t) → post 1 (be_cn (be_fs (be_up N 8 t S) 7 (be_at S t (N 10 t) (N 7) 16)) (be_vs V 6 (be_av S t w (V 25) (V 6) 16)))) :
    wpX_applyStores post (be_cn N V) (nI w) (nI t) := by
  have b26 := hB 26 w
  have hS31 : S < 2 ^ 31 := by
    have := hB 24 w
    rw [hS]
    split <;> omega
  have main : wX_applyStores_19 post (nI w) (nI t) (nI S) (nI (N 0 0)) (nI (N 0 1)) (nI (N 0 2)) (nI (N 0 3)) (nI (N 0 4)) (V 0 5) (nI (N 0 6)) (nI (N 0 7)) (V 1) (fun j => nI (N 2 j)) (fun j => nI (N 3 j)) (fun j => nI (N 4 j)) (V 5) (V 6) (fun j => nI (N 7 j)) (fun j => nI (N 8 j)) (fun j => nI (N 9 j)) (fun j => nI (N 10 j)) (fun j => nI (N 11 j)) (fun j => nI (N 12 j)) (fun j => nI (N 13 j)) (fun j => be_fr (N 14 j)) (fun j => nI (N 15 j)) (fun j => nI (N 16 j)) (fun j => nI (N 17 j)) (V 18) (fun j => nI (N 19 j)) (fun j => nI (N 20 j)) (fun j => nI (N 21 j)) (fun j => nI (N 22 j)) (V 23) (fun j => nI (N 24 j)) (V 25) (fun j => nI (N 26 j)) := by
    unfold wX_applyStores_19
    rw [nI_clamp (show t < 2 ^ 31 by omega)]
    refine ⟨pk_in t 8 ht, br_c (fun h => ?_) (fun h => ?_)⟩
    · exact ⟨17, be_app43 (N := N) (V := V) hw ht hS31 rfl (H0 (fun z => z h)) 16 0 rfl 17 (by omega)⟩
    · exact ⟨17, be_app43 (N := N) (V := V) hw ht hS31 rfl (H1 h) 16 0 rfl 17 (by omega)⟩
  unfold wpX_applyStores be_cn
  dsimp only
  rw [nI_clamp (show w < 2 ^ 31 by omega)]
  refine ⟨pk_in w 6 hw, pk_eq (N 26 w) 0 (fun h => ⟨pk_in w 6 hw, ?_⟩) (fun h => ?_)⟩
  · rw [if_pos h] at hS
    rw [hS] at main
    exact main
  · rw [if_neg h] at hS
    rw [hS] at main
    exact main
/-- who waited becomes ready: states, turns, the counter -/
def be_wst (m : Nat) (st : Nat → Nat) : Nat → (Nat → Nat)
  | 0 => st
  | d + 1 => if m / 2 ^ d % 2 = 1 then be_u (be_wst m st d) d 0 else be_wst m st d
def be_wtn (m : Nat) (tn : Nat → Nat) : Nat → (Nat → Nat)
  | 0 => tn
  | d + 1 => if m / 2 ^ d % 2 = 1 then be_u (be_wtn m tn d) d (be_wtn m tn d d + 1) else be_wtn m tn d
def be_wnc (m nc : Nat) : Nat → Nat
  | 0 => nc
  | d + 1 => if m / 2 ^ d % 2 = 1 then min (be_wnc m nc d) d else be_wnc m nc d
theorem be_wst_le {m : Nat} {st : Nat → Nat} {B : Nat} (h : ∀ j, st j < B) (hB : 0 < B) : ∀ d j, be_wst m st d j < B := by
  intro d
  induction d with
  | zero => exact h
  | succ d ih =>
    intro j
    unfold be_wst
    split
    · rw [be_u_eq]
      split
      · exact hB
      · exact ih j
    · exact ih j
theorem be_wtn_le {m : Nat} {tn : Nat → Nat} {B : Nat} (h : ∀ j, tn j < B) : ∀ d j, (j < d → be_wtn m tn d j < B + 1) ∧ (d ≤ j → be_wtn m tn d j = tn j) := by
  intro d
  induction d with
  | zero => exact fun j => ⟨fun z => absurd z (by omega), fun _ => rfl⟩
  | succ d ih =>
    intro j
    have i1 := ih j
    have i2 := ih d
    have h1 := h j
    have h2 := h d
    unfold be_wtn
    split
    · rw [be_u_eq]
      split
      · rename_i hjd
        subst hjd
        have := i2.2 (Nat.le_refl _)
        exact ⟨fun _ => by omega, fun z => by omega⟩
      · exact ⟨fun z => by
          rcases Nat.lt_or_ge j d with q | q
          · exact i1.1 q
          · have := i1.2 q; omega, fun z => i1.2 (by omega)⟩
    · exact ⟨fun z => by
          rcases Nat.lt_or_ge j d with q | q
          · exact i1.1 q
          · have := i1.2 q; omega, fun z => i1.2 (by omega)⟩
theorem be_wnc_le (m nc : Nat) : ∀ d, be_wnc m nc d ≤ nc := by
  intro d
  induction d with
  | zero => exact Nat.le_refl _
  | succ d ih =>
    unfold be_wnc
    split
    · have := Nat.min_le_left (be_wnc m nc d) d
      omega
    · exact ih
/-- a transaction has ended: what its worker sets, then who waited -/
def be_fa (N : Nat → Nat → Nat) (w t S : Nat) : Nat → Nat → Nat := be_up (be_up (be_fs (be_up N 8 t S) 7 (be_at S t (N 10 t) (N 7) 16)) 16 t (N 26 w)) 9 t 2
def be_fb (N : Nat → Nat → Nat) (t : Nat) : Nat → Nat → Nat := be_up (be_fs (be_fs (be_up N 0 3 (be_wnc (N 11 t) (N 0 3) 8)) 9 (be_wst (N 11 t) (N 9) 8)) 10 (be_wtn (N 11 t) (N 10) 8)) 11 t 0
/-- finish's loop: who waited -/
theorem be_fin36 {post : St2 → Prop} {N : Nat → Nat → Nat} {V : Nat → Nat → Int32} {w t : Nat} {x3 : Int32} (hB : ∀ f j, N f j < 1048576) (hT : ∀ j, N 10 j < 1000000) (hw : w < 6) (ht : t < 8)
    (H1 : N 0 4 ≤ t → post (be_cn (be_up (be_fb N t) 19 w 0) V))
    (H2 : ¬ N 0 4 ≤ t → ¬ x3 = 0 → post (be_cn (be_up (be_up (be_fb N t) 19 w 0) 0 4 t) V))
    (H3 : ¬ N 0 4 ≤ t → x3 = 0 → post (be_cn (be_up (be_up (be_up (be_fb N t) 19 w 2) 20 w t) 21 w (be_fb N t 10 t)) V)) :
    ∀ k d, d + k = 8 → ∀ n, k < n → ∀ nc st tn, nc = be_wnc (N 11 t) (N 0 3) d → st = be_wst (N 11 t) (N 9) d → tn = be_wtn (N 11 t) (N 10) d →
      wX_finish_36 post (nI w) (nI t) x3 n (nI d) (nI ((be_fs (be_fs (be_up N 0 3 nc) 9 st) 10 tn) 0 0)) (nI ((be_fs (be_fs (be_up N 0 3 nc) 9 st) 10 tn) 0 1)) (nI ((be_fs (be_fs (be_up N 0 3 nc) 9 st) 10 tn) 0 2)) (nI ((be_fs (be_fs (be_up N 0 3 nc) 9 st) 10 tn) 0 3)) (nI ((be_fs (be_fs (be_up N 0 3 nc) 9 st) 10 tn) 0 4)) (V 0 5) (nI ((be_fs (be_fs (be_up N 0 3 nc) 9 st) 10 tn) 0 6)) (nI ((be_fs (be_fs (be_up N 0 3 nc) 9 st) 10 tn) 0 7)) (V 1) (fun j => nI ((be_fs (be_fs (be_up N 0 3 nc) 9 st) 10 tn) 2 j)) (fun j => nI ((be_fs (be_fs (be_up N 0 3 nc) 9 st) 10 tn) 3 j)) (fun j => nI ((be_fs (be_fs (be_up N 0 3 nc) 9 st) 10 tn) 4 j)) (V 5) (V 6) (fun j => nI ((be_fs (be_fs (be_up N 0 3 nc) 9 st) 10 tn) 7 j)) (fun j => nI ((be_fs (be_fs (be_up N 0 3 nc) 9 st) 10 tn) 8 j)) (fun j => nI ((be_fs (be_fs (be_up N 0 3 nc) 9 st) 10 tn) 9 j)) (fun j => nI ((be_fs (be_fs (be_up N 0 3 nc) 9 st) 10 tn) 10 j)) (fun j => nI ((be_fs (be_fs (be_up N 0 3 nc) 9 st) 10 tn) 11 j)) (fun j => nI ((be_fs (be_fs (be_up N 0 3 nc) 9 st) 10 tn) 12 j)) (fun j => nI ((be_fs (be_fs (be_up N 0 3 nc) 9 st) 10 tn) 13 j)) (fun j => be_fr ((be_fs (be_fs (be_up N 0 3 nc) 9 st) 10 tn) 14 j)) (fun j => nI ((be_fs (be_fs (be_up N 0 3 nc) 9 st) 10 tn) 15 j)) (fun j => nI ((be_fs (be_fs (be_up N 0 3 nc) 9 st) 10 tn) 16 j)) (fun j => nI ((be_fs (be_fs (be_up N 0 3 nc) 9 st) 10 tn) 17 j)) (V 18) (fun j => nI ((be_fs (be_fs (be_up N 0 3 nc) 9 st) 10 tn) 19 j)) (fun j => nI ((be_fs (be_fs (be_up N 0 3 nc) 9 st) 10 tn) 20 j)) (fun j => nI ((be_fs (be_fs (be_up N 0 3 nc) 9 st) 10 tn) 21 j)) (fun j => nI ((be_fs (be_fs (be_up N 0 3 nc) 9 st) 10 tn) 22 j)) (V 23) (fun j => nI ((be_fs (be_fs (be_up N 0 3 nc) 9 st) 10 tn) 24 j)) (V 25) (fun j => nI ((be_fs (be_fs (be_up N 0 3 nc) 9 st) 10 tn) 26 j)) := by
  have b4 := hB 0 4
  have b11 := hB 11 t
  intro k
  induction k with
  | zero =>
    intro d hd n hn nc st tn e1 e2 e3
    obtain ⟨n, rfl⟩ : ∃ m, n = m + 1 := ⟨n - 1, by omega⟩
    have hd' : d = 8 := by omega
    subst hd'
    subst e1 e2 e3
    have h104 : (N 0 4 ≤ t ∨ x3 = 0) → wX_finish_104 post (nI w) (nI t) (nI ((be_up (be_fb N t) 19 w 0) 0 0)) (nI ((be_up (be_fb N t) 19 w 0) 0 1)) (nI ((be_up (be_fb N t) 19 w 0) 0 2)) (nI ((be_up (be_fb N t) 19 w 0) 0 3)) (nI ((be_up (be_fb N t) 19 w 0) 0 4)) (V 0 5) (nI ((be_up (be_fb N t) 19 w 0) 0 6)) (nI ((be_up (be_fb N t) 19 w 0) 0 7)) (V 1) (fun j => nI ((be_up (be_fb N t) 19 w 0) 2 j)) (fun j => nI ((be_up (be_fb N t) 19 w 0) 3 j)) (fun j => nI ((be_up (be_fb N t) 19 w 0) 4 j)) (V 5) (V 6) (fun j => nI ((be_up (be_fb N t) 19 w 0) 7 j)) (fun j => nI ((be_up (be_fb N t) 19 w 0) 8 j)) (fun j => nI ((be_up (be_fb N t) 19 w 0) 9 j)) (fun j => nI ((be_up (be_fb N t) 19 w 0) 10 j)) (fun j => nI ((be_up (be_fb N t) 19 w 0) 11 j)) (fun j => nI ((be_up (be_fb N t) 19 w 0) 12 j)) (fun j => nI ((be_up (be_fb N t) 19 w 0) 13 j)) (fun j => be_fr ((be_up (be_fb N t) 19 w 0) 14 j)) (fun j => nI ((be_up (be_fb N t) 19 w 0) 15 j)) (fun j => nI ((be_up (be_fb N t) 19 w 0) 16 j)) (fun j => nI ((be_up (be_fb N t) 19 w 0) 17 j)) (V 18) (fun j => nI ((be_up (be_fb N t) 19 w 0) 19 j)) (fun j => nI ((be_up (be_fb N t) 19 w 0) 20 j)) (fun j => nI ((be_up (be_fb N t) 19 w 0) 21 j)) (fun j => nI ((be_up (be_fb N t) 19 w 0) 22 j)) (V 23) (fun j => nI ((be_up (be_fb N t) 19 w 0) 24 j)) (V 25) (fun j => nI ((be_up (be_fb N t) 19 w 0) 26 j)) := by
      intro hor
      refine pk_le (N 0 4) t (fun h => H1 h) (fun h => ?_)
      refine be_beginCheck (N := be_up (be_fb N t) 19 w 0) (V := V) hw ht ?_
      have hx : x3 = 0 := by
        rcases hor with q | q
        · omega
        · exact q
      have hq := H3 (by omega) hx
      have eu : be_u (be_u (N 19) w 0) w 2 = be_u (N 19) w 2 := by
        funext j
        rw [be_u_eq, be_u_eq, be_u_eq]
        split <;> rfl
      unfold be_cn at hq
      rw [show be_up (be_up (be_up (be_fb N t) 19 w 2) 20 w t) 21 w (be_fb N t 10 t) 19 = be_u (N 19) w 2 from rfl, ← eu] at hq
      exact hq
    refine pk_le 8 8 (fun _ => ?_) (fun h => absurd h (by omega))
    refine ⟨pk_in t 8 ht, be_st t 0 ⟨pk_in w 6 hw, be_st w 0 (pk_le (N 0 4) t (fun h => ?_) (fun h => ?_))⟩⟩
    · exact h104 (Or.inl h)
    · exact br_c (fun z => h104 (Or.inr z)) (fun z => H2 (by omega) z)
  | succ k ih =>
    intro d hd n hn nc st tn e1 e2 e3
    obtain ⟨n, rfl⟩ : ∃ m, n = m + 1 := ⟨n - 1, by omega⟩
    have ih' := ih (d + 1) (by omega) n (by omega)
    refine pk_le 8 d (fun h => absurd h (by omega)) (fun _ => ⟨pk_in t 8 ht, be_br (m := N 11 t) (c := d) (fun h => ?_) (fun h => ?_) (by omega) (by omega) (by rw [nI_clamp (by omega)]; rfl) rfl⟩)
    · have f1 : be_wnc (N 11 t) (N 0 3) (d + 1) = min (be_wnc (N 11 t) (N 0 3) d) d := if_pos h
      have f2 : be_wst (N 11 t) (N 9) (d + 1) = be_u (be_wst (N 11 t) (N 9) d) d 0 := if_pos h
      have f3 : be_wtn (N 11 t) (N 10) (d + 1) = be_u (be_wtn (N 11 t) (N 10) d) d (be_wtn (N 11 t) (N 10) d d + 1) := if_pos h
      have hB' : ∀ f j, be_fs (be_fs (be_up N 0 3 nc) 9 st) 10 tn f j < 1048576 := by
        intro f j
        unfold be_up be_fs
        cases q10 : Nat.beq f 10
        · cases q9 : Nat.beq f 9
          · cases q0 : Nat.beq f 0
            · exact hB f j
            · show be_u (N 0) 3 nc j < _
              rw [be_u_eq]
              split
              · have := be_wnc_le (N 11 t) (N 0 3) d
                have := hB 0 3
                omega
              · exact hB 0 j
          · show st j < _
            rw [e2]
            exact be_wst_le (hB 9) (by omega) d j
        · show tn j < _
          rw [e3]
          have := be_wtn_le (m := N 11 t) hT d j
          have h10 := hT j
          rcases Nat.lt_or_ge j d with q | q
          · have := this.1 q; omega
          · have := this.2 q; omega
      refine be_makeReady (N := be_fs (be_fs (be_up N 0 3 nc) 9 st) 10 tn) (V := V) hB' (by omega) ?_
      refine nm_r (nI_1 d) ?_
      exact ih' (min nc d) (be_u st d 0) (be_u tn d (tn d + 1)) (by rw [f1, e1]) (by rw [f2, e2]) (by rw [f3, e3])
    · have f1 : be_wnc (N 11 t) (N 0 3) (d + 1) = be_wnc (N 11 t) (N 0 3) d := if_neg h
      have f2 : be_wst (N 11 t) (N 9) (d + 1) = be_wst (N 11 t) (N 9) d := if_neg h
      have f3 : be_wtn (N 11 t) (N 10) (d + 1) = be_wtn (N 11 t) (N 10) d := if_neg h
      exact nm_r (nI_1 d) (ih' nc st tn (by rw [f1, e1]) (by rw [f2, e2]) (by rw [f3, e3]))
theorem be_finish {post : St2 → Prop} {N : Nat → Nat → Nat} {V : Nat → Nat → Int32} {w t S : Nat} (hB : ∀ f j, N f j < 1048576) (hT : ∀ j, N 10 j < 1000000) (hw : w < 6) (et : N 20 w = t) (ht : t < 8) (hf : N 26 w < 2) (hS : S = if N 26 w = 0 then N 24 w else 0)
    (H1 : N 0 4 ≤ t → post (be_cn (be_up (be_fb (be_fa N w t S) t) 19 w 0) (be_vs V 6 (be_av S t w (V 25) (V 6) 16))))
    (H2 : ¬ N 0 4 ≤ t → be_new S (N 8 t) → post (be_cn (be_up (be_up (be_fb (be_fa N w t S) t) 19 w 0) 0 4 t) (be_vs V 6 (be_av S t w (V 25) (V 6) 16))))
    (H3 : ¬ N 0 4 ≤ t → ¬ be_new S (N 8 t) → post (be_cn (be_up (be_up (be_up (be_fb (be_fa N w t S) t) 19 w 2) 20 w t) 21 w (be_fb (be_fa N w t S) t 10 t)) (be_vs V 6 (be_av S t w (V 25) (V 6) 16)))) :
    wpX_finish post (be_cn N V) (nI w) := by
  have hS31 : S < 1048576 := by
    have := hB 24 w
    rw [hS]
    split <;> omega
  have hBt : ∀ c j, be_at S t (N 10 t) (N 7) c j < 1048576 := by
    intro c
    induction c with
    | zero => exact hB 7
    | succ c ih =>
      intro j
      unfold be_at
      split
      · rw [be_u_eq]
        split
        · exact hB 10 t
        · exact ih j
      · exact ih j
  have hB2 : ∀ f j, be_fa N w t S f j < 1048576 := by
    intro f j
    unfold be_fa be_up be_fs
    cases q9 : Nat.beq f 9
    · cases q16 : Nat.beq f 16
      · cases q7 : Nat.beq f 7
        · cases q8 : Nat.beq f 8
          · exact hB f j
          · show be_u (N 8) t S j < _
            rw [be_u_eq]
            split
            · exact hS31
            · exact hB 8 j
        · exact hBt 16 j
      · show be_u (N 16) t (N 26 w) j < _
        rw [be_u_eq]
        split
        · exact hB 26 w
        · exact hB 16 j
    · show be_u (N 9) t 2 j < _
      rw [be_u_eq]
      split
      · omega
      · exact hB 9 j
  have en : vp_nar .boolean (nI (N 26 w)) = nI (N 26 w) := by
    have : N 26 w = 0 ∨ N 26 w = 1 := by omega
    rcases this with q | q <;> rw [q] <;> rfl
  have mid : ∀ x3 : Int32, (x3 = 0 → ¬ be_new S (N 8 t)) → (¬ x3 = 0 → be_new S (N 8 t)) → ∃ fu, wX_finish_36 post (nI w) (nI t) x3 fu 0 (nI ((be_fa N w t S) 0 0)) (nI ((be_fa N w t S) 0 1)) (nI ((be_fa N w t S) 0 2)) (nI ((be_fa N w t S) 0 3)) (nI ((be_fa N w t S) 0 4)) ((be_vs V 6 (be_av S t w (V 25) (V 6) 16)) 0 5) (nI ((be_fa N w t S) 0 6)) (nI ((be_fa N w t S) 0 7)) ((be_vs V 6 (be_av S t w (V 25) (V 6) 16)) 1) (fun j => nI ((be_fa N w t S) 2 j)) (fun j => nI ((be_fa N w t S) 3 j)) (fun j => nI ((be_fa N w t S) 4 j)) ((be_vs V 6 (be_av S t w (V 25) (V 6) 16)) 5) ((be_vs V 6 (be_av S t w (V 25) (V 6) 16)) 6) (fun j => nI ((be_fa N w t S) 7 j)) (fun j => nI ((be_fa N w t S) 8 j)) (fun j => nI ((be_fa N w t S) 9 j)) (fun j => nI ((be_fa N w t S) 10 j)) (fun j => nI ((be_fa N w t S) 11 j)) (fun j => nI ((be_fa N w t S) 12 j)) (fun j => nI ((be_fa N w t S) 13 j)) (fun j => be_fr ((be_fa N w t S) 14 j)) (fun j => nI ((be_fa N w t S) 15 j)) (fun j => nI ((be_fa N w t S) 16 j)) (fun j => nI ((be_fa N w t S) 17 j)) ((be_vs V 6 (be_av S t w (V 25) (V 6) 16)) 18) (fun j => nI ((be_fa N w t S) 19 j)) (fun j => nI ((be_fa N w t S) 20 j)) (fun j => nI ((be_fa N w t S) 21 j)) (fun j => nI ((be_fa N w t S) 22 j)) ((be_vs V 6 (be_av S t w (V 25) (V 6) 16)) 23) (fun j => nI ((be_fa N w t S) 24 j)) ((be_vs V 6 (be_av S t w (V 25) (V 6) 16)) 25) (fun j => nI ((be_fa N w t S) 26 j)) := by
    intro x3 hx0 hx1
    exact ⟨9, be_fin36 (N := be_fa N w t S) (V := be_vs V 6 (be_av S t w (V 25) (V 6) 16)) hB2 hT hw ht H1 (fun z q => H2 z (hx1 q)) (fun z q => H3 z (hx0 q)) 8 0 rfl 9 (by omega) (N 0 3) (be_fa N w t S 9) (N 10) rfl rfl rfl⟩
  have fin : ∀ x3 : Int32, (x3 = 0 → ¬ be_new S (N 8 t)) → (¬ x3 = 0 → be_new S (N 8 t)) → (vp_in (nI w) 6 ∧ (vp_in (nI t) 8 ∧ ∀ am : Nat → Int32, am = upd (fun j => nI (N 16 j)) (nI t).toNatClampNeg (vp_nar .boolean (nI (N 26 (nI w).toNatClampNeg))) → (vp_in (nI t) 8 ∧ ∀ am9 : Nat → Int32, am9 = upd (fun j => nI (N 9 j)) (nI t).toNatClampNeg 2 → ∃ fu, wX_finish_36 post (nI w) (nI t) x3 fu 0 (nI (N 0 0)) (nI (N 0 1)) (nI (N 0 2)) (nI (N 0 3)) (nI (N 0 4)) (V 0 5) (nI (N 0 6)) (nI (N 0 7)) (V 1) (fun j => nI (N 2 j)) (fun j => nI (N 3 j)) (fun j => nI (N 4 j)) (V 5) (be_av S t w (V 25) (V 6) 16) (fun j => nI (be_at S t (N 10 t) (N 7) 16 j)) (fun j => nI (be_u (N 8) t S j)) am9 (fun j => nI (N 10 j)) (fun j => nI (N 11 j)) (fun j => nI (N 12 j)) (fun j => nI (N 13 j)) (fun j => be_fr (N 14 j)) (fun j => nI (N 15 j)) am (fun j => nI (N 17 j)) (V 18) (fun j => nI (N 19 j)) (fun j => nI (N 20 j)) (fun j => nI (N 21 j)) (fun j => nI (N 22 j)) (V 23) (fun j => nI (N 24 j)) (V 25) (fun j => nI (N 26 j))))) := by
    intro x3 hx0 hx1
    exact ⟨pk_in w 6 hw, pk_in t 8 ht, be_st t (N 26 w) ⟨pk_in t 8 ht, be_st t 2 (mid x3 hx0 hx1)⟩ rfl (by rw [nI_clamp (by omega), en])⟩
  unfold wpX_finish be_cn
  dsimp only
  rw [nI_clamp (show w < 2 ^ 31 by omega), et]
  rw [nI_clamp (show w < 2 ^ 31 by omega)] at fin
  refine ⟨pk_in w 6 hw, nm_e (be_apply (N := N) (V := V) hB hw ht hS (fun z => ?_) (fun z => ?_))⟩
  · exact fin 0 (fun _ => z) (fun q => absurd rfl q)
  · exact fin 1 (fun q => absurd q (by decide)) (fun _ => z)
end
section
theorem be_compute {post : St2 → Prop} {N : Nat → Nat → Nat} {V : Nat → Nat → Int32} {op a b : Nat} {x : Int32} (ha : a < 24) (hb : b < 24) (ho : op < 100)
    (H : post (be_cn N (be_vp V 23 a (if op = 0 then x else if op = 1 then V 23 a + V 23 b else if op = 2 then V 23 a - V 23 b else V 23 a * V 23 b)))) : wpX_compute post (be_cn N V) (nI op) (nI a) (nI b) x := by
  unfold wpX_compute be_cn
  dsimp only
  rw [nI_clamp (show a < 2 ^ 31 by omega), nI_clamp (show b < 2 ^ 31 by omega)]
  refine pk_eq op 0 (fun h => ?_) (fun h => pk_eq op 1 (fun h1 => ?_) (fun h1 => pk_eq op 2 (fun h2 => ?_) (fun h2 => ?_)))
  · rw [if_pos h] at H
    exact ⟨pk_in a 24 ha, nm_e H⟩
  · rw [if_neg h, if_pos h1] at H
    exact ⟨pk_in a 24 ha, pk_in b 24 hb, pk_in a 24 ha, nm_e H⟩
  · rw [if_neg h, if_neg h1, if_pos h2] at H
    exact ⟨pk_in a 24 ha, pk_in b 24 hb, pk_in a 24 ha, nm_e H⟩
  · rw [if_neg h, if_neg h1, if_neg h2] at H
    exact ⟨pk_in a 24 ha, pk_in b 24 hb, pk_in a 24 ha, nm_e H⟩
/-- NEED -/
theorem be_need {post : St2 → Prop} {N : Nat → Nat → Nat} {V : Nat → Nat → Int32} {w a b : Nat} {x : Int32} (hw : w < 6) (ha : a < 24)
    (H0 : ¬ V 23 a < x → post (be_cn N V))
    (H1 : V 23 a < x → post (be_cn (be_up (be_up N 26 w 1) 22 w 12) V)) : wpX_steer post (be_cn N V) (nI w) (nI 7) (nI a) (nI b) x := by
  unfold wpX_steer be_cn
  dsimp only
  rw [nI_clamp (show a < 2 ^ 31 by omega)]
  refine br_f (by decide) (br_t rfl ⟨pk_in a 24 ha, br_c (fun h => ?_) (fun h => ?_)⟩)
  · exact br_f (by decide) (H0 (fun z => absurd h (Int32.not_le.mpr z)))
  · exact ⟨pk_in w 6 hw, be_st w 1 ⟨pk_in w 6 hw, be_st w 12 (H1 (Int32.not_le.mp h))⟩⟩
/-- one instruction -/
theorem be_carry {post : St2 → Prop} {N : Nat → Nat → Nat} {V : Nat → Nat → Int32} {w t p op pl : Nat} (hB : ∀ f j, N f j < 1048576) (hw : w < 6) (et : N 20 w = t) (ht : t < 8) (ep : N 22 w = p) (hl : p < N 2 t) (hl2 : N 2 t ≤ 12)
    (eo : N 3 (12 * t + p) = op) (epl : N 4 (12 * t + p) = pl) (hpl : pl < 16)
    (H : ((op ≤ 2 ∨ op = 5) ∧ post (be_cn (be_up N 22 w (p + 1)) (be_vp V 23 (4 * w + pl / 4) (if op = 0 then V 5 (12 * t + p) else if op = 1 then V 23 (4 * w + pl / 4) + V 23 (4 * w + pl % 4) else if op = 2 then V 23 (4 * w + pl / 4) - V 23 (4 * w + pl % 4) else V 23 (4 * w + pl / 4) * V 23 (4 * w + pl % 4)))))
      ∨ (op = 3 ∧ ∃ c, c < 16 ∧ V 5 (12 * t + p) &&& 15 = nI c ∧ N 12 t < 12 ∧ (¬ N 24 w / 2 ^ c % 2 = 1) ∧
          (∀ f, f < t → be_nw c (N 8) t = f + 1 → N 9 f ≠ 2 → post (be_cn (be_up (be_up (be_up (be_up N 22 w (p + 1)) 11 f (N 11 f ||| 2 ^ t)) 9 t 3) 19 w 0) V)) ∧
          (be_nw c (N 8) t = 0 → post (be_cn (be_up (be_up (be_up (be_up (be_up N 22 w (p + 1)) 13 (12 * t + N 12 t) c) 14 (12 * t + N 12 t) 0) 15 (12 * t + N 12 t) 0) 12 t (N 12 t + 1)) (be_vp V 23 (4 * w + pl / 4) (V 1 c)))) ∧
          (∀ f, f < t → be_nw c (N 8) t = f + 1 → N 9 f = 2 → post (be_cn (be_up (be_up (be_up (be_up (be_up N 22 w (p + 1)) 13 (12 * t + N 12 t) c) 14 (12 * t + N 12 t) (f + 1)) 15 (12 * t + N 12 t) (N 7 (8 * c + f))) 12 t (N 12 t + 1)) (be_vp V 23 (4 * w + pl / 4) (V 6 (8 * c + f))))))
      ∨ (op = 4 ∧ ∃ c, c < 16 ∧ V 5 (12 * t + p) &&& 15 = nI c ∧ post (be_cn (be_up (be_up N 22 w (p + 1)) 24 w (N 24 w ||| 2 ^ c)) (be_vp V 25 (16 * w + c) (V 23 (4 * w + pl / 4)))))
      ∨ (op = 8 ∧ N 17 t < 12 ∧ post (be_cn (be_up (be_up N 22 w (p + 1)) 17 t (N 17 t + 1)) (be_vp V 18 (12 * t + N 17 t) (V 23 (4 * w + pl / 4)))))
      ∨ (op = 7 ∧ (¬ V 23 (4 * w + pl / 4) < V 5 (12 * t + p) → post (be_cn (be_up N 22 w (p + 1)) V)) ∧ (V 23 (4 * w + pl / 4) < V 5 (12 * t + p) → post (be_cn (be_up (be_up N 26 w 1) 22 w 12) V)))) :
    wpX_carryOn post (be_cn N V) (nI w) := by
  have b2 := hB 2 t
  have hB' : ∀ f j, be_up N 22 w (p + 1) f j < 1048576 := by
    intro f j
    unfold be_up be_fs
    cases q : Nat.beq f 22
    · exact hB f j
    · show be_u (N 22) w (p + 1) j < _
      rw [be_u_eq]
      split
      · omega
      · exact hB 22 j
  unfold wpX_carryOn be_cn
  dsimp only
  rw [nI_clamp (show w < 2 ^ 31 by omega), et, ep]
  have e3 : (12 : Int32) * nI t + nI p = nI (12 * t + p) := be_mulAdd 12 t p
  have e4 : (4 : Int32) * nI w + (nI pl >>> ((2 : Int32) &&& 31)) = nI (4 * w + pl / 4) := by
    rw [pk_shrN (show pl < 2 ^ 31 by omega) _ 2 (by decide)]
    exact be_mulAdd 4 w _
  have e5 : (4 : Int32) * nI w + (nI pl &&& 3) = nI (4 * w + pl % 4) := by
    rw [pk_andN (show pl < 2 ^ 32 by omega) 2 (by decide)]
    exact be_mulAdd 4 w _
  have h4 : pl / 4 < 4 := by omega
  have h5 : pl % 4 < 4 := by omega
  refine ⟨pk_in w 6 hw, nm_e ⟨pk_in w 6 hw, ?_⟩⟩
  rw [nI_clamp (show t < 2 ^ 31 by omega)]
  refine ⟨pk_in t 8 ht, pk_lt p (N 2 t) (fun _ => ?_) (fun h => absurd h (by omega))⟩
  refine ⟨pk_in w 6 hw, nm_r e3 ?_⟩
  rw [nI_clamp (show 12 * t + p < 2 ^ 31 by omega), epl, eo]
  refine ⟨be_in (by omega), nm_r e4 ⟨be_in (by omega), nm_r e5 ⟨be_in (by omega), nm_e ⟨pk_in w 6 hw, pk_in w 6 hw, nm_r (e' := fun j => nI (be_u (N 22) w (p + 1) j)) (by rw [nI_1, be_ust]) ?_⟩⟩⟩⟩
  have hcomp : (op ≤ 2 ∨ op = 5) → post (be_cn (be_up N 22 w (p + 1)) (be_vp V 23 (4 * w + pl / 4) (if op = 0 then V 5 (12 * t + p) else if op = 1 then V 23 (4 * w + pl / 4) + V 23 (4 * w + pl % 4) else if op = 2 then V 23 (4 * w + pl / 4) - V 23 (4 * w + pl % 4) else V 23 (4 * w + pl / 4) * V 23 (4 * w + pl % 4)))) → wX_carryOn_98 post (nI (12 * t + p)) (nI (4 * w + pl / 4)) (nI (4 * w + pl % 4)) (nI op) (nI ((be_up N 22 w (p + 1)) 0 0)) (nI ((be_up N 22 w (p + 1)) 0 1)) (nI ((be_up N 22 w (p + 1)) 0 2)) (nI ((be_up N 22 w (p + 1)) 0 3)) (nI ((be_up N 22 w (p + 1)) 0 4)) (V 0 5) (nI ((be_up N 22 w (p + 1)) 0 6)) (nI ((be_up N 22 w (p + 1)) 0 7)) (V 1) (fun j => nI ((be_up N 22 w (p + 1)) 2 j)) (fun j => nI ((be_up N 22 w (p + 1)) 3 j)) (fun j => nI ((be_up N 22 w (p + 1)) 4 j)) (V 5) (V 6) (fun j => nI ((be_up N 22 w (p + 1)) 7 j)) (fun j => nI ((be_up N 22 w (p + 1)) 8 j)) (fun j => nI ((be_up N 22 w (p + 1)) 9 j)) (fun j => nI ((be_up N 22 w (p + 1)) 10 j)) (fun j => nI ((be_up N 22 w (p + 1)) 11 j)) (fun j => nI ((be_up N 22 w (p + 1)) 12 j)) (fun j => nI ((be_up N 22 w (p + 1)) 13 j)) (fun j => be_fr ((be_up N 22 w (p + 1)) 14 j)) (fun j => nI ((be_up N 22 w (p + 1)) 15 j)) (fun j => nI ((be_up N 22 w (p + 1)) 16 j)) (fun j => nI ((be_up N 22 w (p + 1)) 17 j)) (V 18) (fun j => nI ((be_up N 22 w (p + 1)) 19 j)) (fun j => nI ((be_up N 22 w (p + 1)) 20 j)) (fun j => nI ((be_up N 22 w (p + 1)) 21 j)) (fun j => nI ((be_up N 22 w (p + 1)) 22 j)) (V 23) (fun j => nI ((be_up N 22 w (p + 1)) 24 j)) (V 25) (fun j => nI ((be_up N 22 w (p + 1)) 26 j)) := by
    intro ho hp
    unfold wX_carryOn_98
    rw [nI_clamp (show 12 * t + p < 2 ^ 31 by omega)]
    exact ⟨be_in (by omega), be_compute (N := be_up N 22 w (p + 1)) (V := V) (op := op) (by omega) (by omega) (by omega) hp⟩
  have hop : op < 2 ^ 31 := by
    have := hB 3 (12 * t + p)
    omega
  refine pk_le op 2 (fun h => ?_) (fun h => pk_eq op 5 (fun h5 => ?_) (fun h5 => pk_eq op 3 (fun h3 => ?_) (fun h3 => pk_eq op 9 (fun h9 => ?_) (fun h9 => pk_eq op 4 (fun h4 => ?_) (fun h4 => pk_eq op 10 (fun h10 => ?_) (fun h10 => pk_eq op 8 (fun h8 => ?_) (fun h8 => ?_)))))))
  · rcases H with H | H | H | H | H
    · exact hcomp H.1 H.2
    · have := H.1; omega
    · have := H.1; omega
    · have := H.1; omega
    · have := H.1; omega
  · rcases H with H | H | H | H | H
    · exact hcomp H.1 H.2
    · have := H.1; omega
    · have := H.1; omega
    · have := H.1; omega
    · have := H.1; omega
  · rcases H with H | H | H | H | H
    · have := H.1; omega
    · obtain ⟨_, c, hc, ec, hr, hs, Hw, H0, H1⟩ := H
      rw [ec]
      exact ⟨be_in (by omega), be_readInto (N := be_up N 22 w (p + 1)) (V := V) hB' hw hc (by omega) et ht hr hs Hw H0 H1⟩
    · have := H.1; omega
    · have := H.1; omega
    · have := H.1; omega
  · rcases H with H | H | H | H | H <;> (have := H.1; omega)
  · rcases H with H | H | H | H | H
    · have := H.1; omega
    · have := H.1; omega
    · obtain ⟨_, c, hc, ec, Hp⟩ := H
      rw [ec, nI_clamp (show 4 * w + pl / 4 < 2 ^ 31 by omega)]
      exact ⟨be_in (by omega), be_in (by omega), be_storeFrom (N := be_up N 22 w (p + 1)) (V := V) hB' hw hc Hp⟩
    · have := H.1; omega
    · have := H.1; omega
  · rcases H with H | H | H | H | H <;> (have := H.1; omega)
  · rcases H with H | H | H | H | H
    · have := H.1; omega
    · have := H.1; omega
    · have := H.1; omega
    · obtain ⟨_, h17, Hp⟩ := H
      have e7 : (12 : Int32) * nI t + nI (N 17 t) = nI (12 * t + N 17 t) := be_mulAdd 12 t _
      rw [e7, nI_clamp (show 4 * w + pl / 4 < 2 ^ 31 by omega)]
      exact ⟨pk_in t 8 ht, be_in (by omega), be_in (by omega), be_sv (12 * t + N 17 t) (V 23 (4 * w + pl / 4)) ⟨pk_in t 8 ht, pk_in t 8 ht, nm_r (e' := fun j => nI (be_u (N 17) t (N 17 t + 1) j)) (by rw [nI_1, be_ust]) Hp⟩⟩
    · have := H.1; omega
  · rcases H with H | H | H | H | H
    · have := H.1; omega
    · have := H.1; omega
    · have := H.1; omega
    · have := H.1; omega
    · obtain ⟨ho, Hp0, Hp1⟩ := H
      rw [ho]
      refine ⟨be_in (by omega), be_need (N := be_up N 22 w (p + 1)) (V := V) hw (by omega) Hp0 (fun z => ?_)⟩
      have hq := Hp1 z
      have eu : be_u (be_u (N 22) w (p + 1)) w 12 = be_u (N 22) w 12 := by
        funext j
        rw [be_u_eq, be_u_eq, be_u_eq]
        split <;> rfl
      unfold be_cn at hq
      rw [show be_up (be_up N 26 w 1) 22 w 12 22 = be_u (N 22) w 12 from rfl, ← eu] at hq
      exact hq
end
section
theorem be_isVersion {post : Int32 → Prop} {N : Nat → Nat → Nat} {V : Nat → Nat → Int32} {f c x : Nat} (hB : ∀ f j, N f j < 1048576) (hf : f < 8) (hc : c < 16) (hx : x < 1048576)
    (H1 : N 9 f = 2 → N 7 (8 * c + f) = x → post 1) (H0 : ¬ (N 9 f = 2 ∧ N 7 (8 * c + f) = x) → post 0) : wpX_isVersion post (be_cn N V) (nI f) (nI c) (nI x) := by
  have b9 := hB 9 f
  have b7 := hB 7 (8 * c + f)
  unfold wpX_isVersion be_cn
  dsimp only
  rw [nI_clamp (show f < 2 ^ 31 by omega)]
  refine ⟨pk_in f 8 hf, pk_eq (N 9 f) 2 (fun h => be_vat ⟨pk_in (8 * c + f) 128 (by omega), ?_⟩) (fun h => H0 (fun z => h z.1))⟩
  rw [nI_clamp (show 8 * c + f < 2 ^ 31 by omega)]
  exact pk_eq (N 7 (8 * c + f)) x (fun h2 => H1 h h2) (fun h2 => H0 (fun z => h2 z.2))
/-- the k-th read of t would be the same now -/
def be_RK (st vt wr rl rf rt : Nat → Nat) (t k : Nat) : Prop := be_nw (rl (12 * t + k)) wr t = rf (12 * t + k) ∧ (rf (12 * t + k) ≠ 0 → st (rf (12 * t + k) - 1) = 2 ∧ vt (8 * rl (12 * t + k) + (rf (12 * t + k) - 1)) = rt (12 * t + k))
/-- the reads of t hold -/
def be_RH (st vt wr rc rl rf rt : Nat → Nat) (t : Nat) : Prop := ∀ k, k < rc t → be_RK st vt wr rl rf rt t k
theorem be_readsHold {post : Int32 → Prop} {N : Nat → Nat → Nat} {V : Nat → Nat → Int32} {t : Nat} (hB : ∀ f j, N f j < 1048576) (ht : t < 8) (hrc : N 12 t ≤ 12) (hrl : ∀ k, k < N 12 t → N 13 (12 * t + k) < 16)
    (H1 : be_RH (N 9) (N 7) (N 8) (N 12) (N 13) (N 14) (N 15) t → post 1) (H0 : ¬ be_RH (N 9) (N 7) (N 8) (N 12) (N 13) (N 14) (N 15) t → post 0) : wpX_readsHold post (be_cn N V) (nI t) := by
  unfold wpX_readsHold be_cn
  dsimp only
  refine loop_m (σ := Nat) (fun n k => wX_readsHold_2 post (nI t) (nI (N 0 0)) (nI (N 0 1)) (nI (N 0 2)) (nI (N 0 3)) (nI (N 0 4)) (V 0 5) (nI (N 0 6)) (nI (N 0 7)) (V 1) (fun j => nI (N 2 j)) (fun j => nI (N 3 j)) (fun j => nI (N 4 j)) (V 5) (V 6) (fun j => nI (N 7 j)) (fun j => nI (N 8 j)) (fun j => nI (N 9 j)) (fun j => nI (N 10 j)) (fun j => nI (N 11 j)) (fun j => nI (N 12 j)) (fun j => nI (N 13 j)) (fun j => be_fr (N 14 j)) (fun j => nI (N 15 j)) (fun j => nI (N 16 j)) (fun j => nI (N 17 j)) (V 18) (fun j => nI (N 19 j)) (fun j => nI (N 20 j)) (fun j => nI (N 21 j)) (fun j => nI (N 22 j)) (V 23) (fun j => nI (N 24 j)) (V 25) (fun j => nI (N 26 j)) n (nI k)) (fun k => k ≤ N 12 t ∧ ∀ i, i < k → be_RK (N 9) (N 7) (N 8) (N 13) (N 14) (N 15) t i) (fun k => N 12 t - k) ?_ 0 ⟨by omega, fun i hi => absurd hi (by omega)⟩
  intro n k hI hk
  have next : be_RK (N 9) (N 7) (N 8) (N 13) (N 14) (N 15) t k → k < N 12 t → wX_readsHold_2 post (nI t) (nI (N 0 0)) (nI (N 0 1)) (nI (N 0 2)) (nI (N 0 3)) (nI (N 0 4)) (V 0 5) (nI (N 0 6)) (nI (N 0 7)) (V 1) (fun j => nI (N 2 j)) (fun j => nI (N 3 j)) (fun j => nI (N 4 j)) (V 5) (V 6) (fun j => nI (N 7 j)) (fun j => nI (N 8 j)) (fun j => nI (N 9 j)) (fun j => nI (N 10 j)) (fun j => nI (N 11 j)) (fun j => nI (N 12 j)) (fun j => nI (N 13 j)) (fun j => be_fr (N 14 j)) (fun j => nI (N 15 j)) (fun j => nI (N 16 j)) (fun j => nI (N 17 j)) (V 18) (fun j => nI (N 19 j)) (fun j => nI (N 20 j)) (fun j => nI (N 21 j)) (fun j => nI (N 22 j)) (V 23) (fun j => nI (N 24 j)) (V 25) (fun j => nI (N 26 j)) n (nI (k + 1)) := by
    intro h hlt
    refine hk (k + 1) ⟨by omega, fun i hi => ?_⟩ (by omega)
    rcases Nat.lt_or_ge i k with q | q
    · exact hI.2 i q
    · have : i = k := by omega
      rw [this]
      exact h
  show wX_readsHold_2 post (nI t) (nI (N 0 0)) (nI (N 0 1)) (nI (N 0 2)) (nI (N 0 3)) (nI (N 0 4)) (V 0 5) (nI (N 0 6)) (nI (N 0 7)) (V 1) (fun j => nI (N 2 j)) (fun j => nI (N 3 j)) (fun j => nI (N 4 j)) (V 5) (V 6) (fun j => nI (N 7 j)) (fun j => nI (N 8 j)) (fun j => nI (N 9 j)) (fun j => nI (N 10 j)) (fun j => nI (N 11 j)) (fun j => nI (N 12 j)) (fun j => nI (N 13 j)) (fun j => be_fr (N 14 j)) (fun j => nI (N 15 j)) (fun j => nI (N 16 j)) (fun j => nI (N 17 j)) (V 18) (fun j => nI (N 19 j)) (fun j => nI (N 20 j)) (fun j => nI (N 21 j)) (fun j => nI (N 22 j)) (V 23) (fun j => nI (N 24 j)) (V 25) (fun j => nI (N 26 j)) (n + 1) (nI k)
  unfold wX_readsHold_2
  rw [nI_clamp (show t < 2 ^ 31 by omega)]
  refine ⟨pk_in t 8 ht, pk_le (N 12 t) k (fun h => H1 (fun i hi => hI.2 i (by omega))) (fun h => ?_)⟩
  have e3 : (12 : Int32) * nI t + nI k = nI (12 * t + k) := be_mulAdd 12 t k
  have hl := hrl k h
  have b14 := hB 14 (12 * t + k)
  refine nm_r e3 ?_
  rw [nI_clamp (show 12 * t + k < 2 ^ 31 by omega)]
  refine ⟨be_in (by omega), be_newest (N := N) (V := V) hl (by omega) hB ⟨be_in (by omega), br_c (fun hc => ?_) (fun hc => ?_)⟩⟩
  · have hle := be_nw_le (N 13 (12 * t + k)) (N 8) t
    have he : be_nw (N 13 (12 * t + k)) (N 8) t = N 14 (12 * t + k) := (be_fr_inj (by omega) (by omega)).mp hc
    by_cases h0 : N 14 (12 * t + k) = 0
    · rw [he, h0]
      exact br_t be_fr_neg (nm_r (nI_1 k) (next ⟨he, fun z => absurd h0 z⟩ h))
    · rw [he]
      refine br_f (be_fr_nneg h0 (by omega)) ⟨be_in (by omega), be_in (by omega), ?_⟩
      rw [be_fr_pos h0]
      refine be_isVersion (N := N) (V := V) hB (by omega) hl (hB 15 _) (fun h1 h2 => br_f (by decide) (nm_r (nI_1 k) (next ⟨he, fun _ => ⟨h1, h2⟩⟩ h))) (fun hn => br_t rfl (H0 (fun z => hn ((z k h).2 h0))))
  · exact H0 (fun z => hc (by rw [(z k h).1]))
theorem be_checkNow {post : St2 → Prop} {N : Nat → Nat → Nat} {V : Nat → Nat → Int32} {w t : Nat} (hB : ∀ f j, N f j < 1048576) (hw : w < 6) (et : N 20 w = t) (ht : t < 8) (hrc : N 12 t ≤ 12) (hrl : ∀ k, k < N 12 t → N 13 (12 * t + k) < 16)
    (H0 : ¬ (N 9 t = 2 ∧ N 10 t = N 21 w ∧ ¬ be_RH (N 9) (N 7) (N 8) (N 12) (N 13) (N 14) (N 15) t) → post (be_cn (be_up N 19 w 0) V))
    (H1 : N 9 t = 2 → N 10 t = N 21 w → ¬ be_RH (N 9) (N 7) (N 8) (N 12) (N 13) (N 14) (N 15) t → post (be_cn (be_up (be_up (be_up (be_up (be_up N 19 w 0) 9 t 0) 10 t (N 10 t + 1)) 0 3 (min (N 0 3) t)) 0 4 (min (N 0 4) (t + 1))) V)) :
    wpX_checkNow post (be_cn N V) (nI w) := by
  have b9 := hB 9 t
  have b10 := hB 10 t
  have b21 := hB 21 w
  have b4 := hB 0 4
  have hB' : ∀ f j, be_up N 19 w 0 f j < 1048576 := by
    intro f j
    unfold be_up be_fs
    cases q : Nat.beq f 19
    · exact hB f j
    · show be_u (N 19) w 0 j < _
      rw [be_u_eq]
      split
      · omega
      · exact hB 19 j
  unfold wpX_checkNow be_cn
  dsimp only
  rw [nI_clamp (show w < 2 ^ 31 by omega), et]
  refine ⟨pk_in w 6 hw, nm_e ⟨pk_in w 6 hw, nm_r (be_ust (N 19) w 0) ?_⟩⟩
  rw [nI_clamp (show t < 2 ^ 31 by omega)]
  refine ⟨pk_in t 8 ht, pk_eq (N 9 t) 2 (fun h9 => ⟨pk_in t 8 ht, pk_in w 6 hw, pk_eq (N 10 t) (N 21 w) (fun h10 => ?_) (fun h10 => H0 (fun z => h10 z.2.1))⟩) (fun h9 => H0 (fun z => h9 z.1))⟩
  refine be_readsHold (N := be_up N 19 w 0) (V := V) hB' ht hrc hrl (fun h => br_f (by decide) (H0 (fun z => z.2.2 h))) (fun h => br_t rfl (be_makeReady (N := be_up N 19 w 0) (V := V) hB' ht ?_))
  have e1 : nI t + 1 = nI (t + 1) := nI_1 t
  have hq := H1 h9 h10 h
  rw [e1]
  refine pk_le (N 0 4) (t + 1) (fun hk => ?_) (fun hk => nm_e ?_)
  · rw [Nat.min_eq_left hk] at hq
    exact hq
  · rw [Nat.min_eq_right (show t + 1 ≤ N 0 4 by omega)] at hq
    exact hq
theorem be_carry70 {post : St2 → Prop} {N : Nat → Nat → Nat} {V : Nat → Nat → Int32} {w : Nat} (hw : w < 6) (H : ∀ g : Nat → Int32, (∀ j, (j < 4 * w ∨ 4 * w + 4 ≤ j) → g j = V 23 j) → post (be_cn N (be_vs V 23 g))) :
    ∃ n, wX_beginCarrying_70 post (nI w) (nI (N 0 0)) (nI (N 0 1)) (nI (N 0 2)) (nI (N 0 3)) (nI (N 0 4)) (V 0 5) (nI (N 0 6)) (nI (N 0 7)) n 0 (V 1) (fun j => nI (N 2 j)) (fun j => nI (N 3 j)) (fun j => nI (N 4 j)) (V 5) (V 6) (fun j => nI (N 7 j)) (fun j => nI (N 8 j)) (fun j => nI (N 9 j)) (fun j => nI (N 10 j)) (fun j => nI (N 11 j)) (fun j => nI (N 12 j)) (fun j => nI (N 13 j)) (fun j => be_fr (N 14 j)) (fun j => nI (N 15 j)) (fun j => nI (N 16 j)) (fun j => nI (N 17 j)) (V 18) (fun j => nI (N 19 j)) (fun j => nI (N 20 j)) (fun j => nI (N 21 j)) (fun j => nI (N 22 j)) (V 23) (fun j => nI (N 24 j)) (V 25) (fun j => nI (N 26 j)) := by
  refine pk_loop (σ := Nat → Int32) (fun n r g => wX_beginCarrying_70 post (nI w) (nI (N 0 0)) (nI (N 0 1)) (nI (N 0 2)) (nI (N 0 3)) (nI (N 0 4)) (V 0 5) (nI (N 0 6)) (nI (N 0 7)) n (nI r) ((be_vs V 23 g) 1) (fun j => nI (N 2 j)) (fun j => nI (N 3 j)) (fun j => nI (N 4 j)) ((be_vs V 23 g) 5) ((be_vs V 23 g) 6) (fun j => nI (N 7 j)) (fun j => nI (N 8 j)) (fun j => nI (N 9 j)) (fun j => nI (N 10 j)) (fun j => nI (N 11 j)) (fun j => nI (N 12 j)) (fun j => nI (N 13 j)) (fun j => be_fr (N 14 j)) (fun j => nI (N 15 j)) (fun j => nI (N 16 j)) (fun j => nI (N 17 j)) ((be_vs V 23 g) 18) (fun j => nI (N 19 j)) (fun j => nI (N 20 j)) (fun j => nI (N 21 j)) (fun j => nI (N 22 j)) ((be_vs V 23 g) 23) (fun j => nI (N 24 j)) ((be_vs V 23 g) 25) (fun j => nI (N 26 j))) (fun _ g => ∀ j, (j < 4 * w ∨ 4 * w + 4 ≤ j) → g j = V 23 j) 4 0 (V 23) (by omega) (fun j _ => rfl) ?_ ?_
  · intro n g hg
    exact pk_le 4 4 (fun _ => H g hg) (fun h => absurd h (by omega))
  · intro n r g hr hg hk
    refine pk_le 4 r (fun h => absurd h (by omega)) (fun _ => ?_)
    have e : (4 : Int32) * nI w + nI r = nI (4 * w + r) := be_mulAdd 4 w r
    rw [e]
    refine ⟨be_in (by omega), be_sv (4 * w + r) 0 (nm_r (nI_1 r) (hk (upd g (4 * w + r) 0) (fun j hj => ?_)))⟩
    rw [pk_un (by omega)]
    exact hg j hj
theorem be_beginCarrying {post : St2 → Prop} {N : Nat → Nat → Nat} {V : Nat → Nat → Int32} {w t : Nat} (hw : w < 6) (ht : t < 8)
    (H : ∀ g : Nat → Int32, (∀ j, (j < 4 * w ∨ 4 * w + 4 ≤ j) → g j = V 23 j) → post (be_cn (be_up (be_up (be_up (be_up (be_up (be_up (be_up (be_up (be_up N 9 t 1) 19 w 1) 20 w t) 21 w (N 10 t)) 22 w 0) 24 w 0) 26 w 0) 12 t 0) 17 t 0) (be_vs V 23 g))) :
    wpX_beginCarrying post (be_cn N V) (nI w) (nI t) := by
  unfold wpX_beginCarrying be_cn
  exact ⟨pk_in t 8 ht, be_st t 1 ⟨pk_in w 6 hw, be_st w 1 ⟨pk_in w 6 hw, be_st w t ⟨pk_in t 8 ht, pk_in w 6 hw, be_st w (N 10 t) ⟨pk_in w 6 hw, be_st w 0 ⟨pk_in w 6 hw, be_st w 0 ⟨pk_in w 6 hw, be_st w 0 ⟨pk_in t 8 ht, be_st t 0 ⟨pk_in t 8 ht, be_st t 0
    (be_carry70 (N := be_up (be_up (be_up (be_up (be_up (be_up (be_up (be_up (be_up N 9 t 1) 19 w 1) 20 w t) 21 w (N 10 t)) 22 w 0) 24 w 0) 26 w 0) 12 t 0) 17 t 0) (V := V) hw H)⟩⟩⟩⟩⟩ rfl (by rw [nI_clamp (by omega)])⟩⟩⟩⟩
theorem be_takeTask {post : St2 → Prop} {N : Nat → Nat → Nat} {V : Nat → Nat → Int32} {w : Nat} (hB : ∀ f j, N f j < 1048576) (hw : w < 6) (hc : N 0 0 ≤ 8)
    (H0 : N 0 0 ≤ N 0 3 → (N 0 3 ≤ N 0 4 ∨ N 0 0 ≤ N 0 4) → post (be_cn N V))
    (H1 : N 0 4 < N 0 3 → N 0 4 < N 0 0 → N 9 (N 0 4) ≠ 2 → post (be_cn (be_up N 0 4 (N 0 4 + 1)) V))
    (H2 : N 0 4 < N 0 3 → N 0 4 < N 0 0 → N 9 (N 0 4) = 2 → post (be_cn (be_up (be_up (be_up (be_up N 0 4 (N 0 4 + 1)) 19 w 2) 20 w (N 0 4)) 21 w (N 10 (N 0 4))) V))
    (H3 : N 0 3 < N 0 0 → (N 0 3 ≤ N 0 4 ∨ N 0 0 ≤ N 0 4) → N 9 (N 0 3) ≠ 0 → post (be_cn (be_up N 0 3 (N 0 3 + 1)) V))
    (H4 : N 0 3 < N 0 0 → (N 0 3 ≤ N 0 4 ∨ N 0 0 ≤ N 0 4) → N 9 (N 0 3) = 0 → ∀ g : Nat → Int32, (∀ j, (j < 4 * w ∨ 4 * w + 4 ≤ j) → g j = V 23 j) → post (be_cn (be_up (be_up (be_up (be_up (be_up (be_up (be_up (be_up (be_up (be_up N 0 3 (N 0 3 + 1)) 9 (N 0 3) 1) 19 w 1) 20 w (N 0 3)) 21 w (N 10 (N 0 3))) 22 w 0) 24 w 0) 26 w 0) 12 (N 0 3) 0) 17 (N 0 3) 0) (be_vs V 23 g))) :
    wpX_takeTask post (be_cn N V) (nI w) := by
  have b0 := hB 0 0
  have b3 := hB 0 3
  have b4 := hB 0 4
  have main : (N 0 3 ≤ N 0 4 ∨ N 0 0 ≤ N 0 4) → wX_takeTask_56 post (nI w) (nI (N 0 0)) (nI (N 0 1)) (nI (N 0 2)) (nI (N 0 3)) (nI (N 0 4)) (V 0 5) (nI (N 0 6)) (nI (N 0 7)) (V 1) (fun j => nI (N 2 j)) (fun j => nI (N 3 j)) (fun j => nI (N 4 j)) (V 5) (V 6) (fun j => nI (N 7 j)) (fun j => nI (N 8 j)) (fun j => nI (N 9 j)) (fun j => nI (N 10 j)) (fun j => nI (N 11 j)) (fun j => nI (N 12 j)) (fun j => nI (N 13 j)) (fun j => be_fr (N 14 j)) (fun j => nI (N 15 j)) (fun j => nI (N 16 j)) (fun j => nI (N 17 j)) (V 18) (fun j => nI (N 19 j)) (fun j => nI (N 20 j)) (fun j => nI (N 21 j)) (fun j => nI (N 22 j)) (V 23) (fun j => nI (N 24 j)) (V 25) (fun j => nI (N 26 j)) := by
    intro hor
    unfold wX_takeTask_56
    rw [nI_clamp (show N 0 3 < 2 ^ 31 by omega)]
    have b9 := hB 9 (N 0 3)
    refine pk_le (N 0 0) (N 0 3) (fun h => H0 h hor) (fun h => nm_r (nI_1 _) ⟨pk_in (N 0 3) 8 (by omega), pk_eq (N 9 (N 0 3)) 0 (fun h9 => ?_) (fun h9 => H3 h hor h9)⟩)
    exact be_beginCarrying (N := be_up N 0 3 (N 0 3 + 1)) (V := V) hw (by omega) (H4 h hor h9)
  unfold wpX_takeTask be_cn
  dsimp only
  rw [nI_clamp (show N 0 4 < 2 ^ 31 by omega)]
  have b9 := hB 9 (N 0 4)
  refine pk_le (N 0 3) (N 0 4) (fun h => main (Or.inl h)) (fun h => pk_le (N 0 0) (N 0 4) (fun h2 => main (Or.inr h2)) (fun h2 => nm_r (nI_1 _) ⟨pk_in (N 0 4) 8 (by omega), pk_eq (N 9 (N 0 4)) 2 (fun h9 => ?_) (fun h9 => H1 h h2 h9)⟩))
  exact be_beginCheck (N := be_up N 0 4 (N 0 4 + 1)) (V := V) hw (by omega) (H2 h h2 h9)
end
section
/-- the cell of the first and of the second read -/
def be_ce (c0 c1 k : Nat) : Nat := if k = 0 then c0 else c1
/-- counters and states -/
def be_J1 (cnt nc nk : Nat) (st : Nat → Nat) : Prop := nc ≤ cnt ∧ nk ≤ cnt ∧ ∀ t, t < cnt → st t ≤ 3 ∧ (st t = 0 → nc ≤ t)
/-- who waits for whom -/
def be_J2 (cnt : Nat) (st wt : Nat → Nat) : Prop := (∀ t, t < cnt → st t = 3 → ∃ f, f < t ∧ wt f / 2 ^ t % 2 = 1) ∧ (∀ f t, wt f / 2 ^ t % 2 = 1 → f < t ∧ t < cnt ∧ st t = 3 ∧ st f ≠ 2) ∧ (∀ f g t, wt f / 2 ^ t % 2 = 1 → wt g / 2 ^ t % 2 = 1 → f = g)
/-- workers and what they carry -/
def be_J3 (cnt W : Nat) (st tn tk to tt : Nat → Nat) : Prop := (∀ t, t < cnt → st t = 1 → ∃ w, w < W ∧ tk w = 1 ∧ to w = t) ∧ (∀ w, w < W → tk w ≤ 2 ∧ (tk w ≠ 0 → to w < cnt) ∧ (tk w = 1 → st (to w) = 1 ∧ tn (to w) = tt w)) ∧ (∀ w v, w < W → v < W → tk w = 1 → tk v = 1 → to w = to v → w = v)
/-- what reads wrongly will be checked -/
def be_J4 (cnt W nk : Nat) (st tn vt wr rc rl rf rt tk to tt : Nat → Nat) : Prop := ∀ t, t < cnt → st t = 2 → be_RH st vt wr rc rl rf rt t ∨ nk ≤ t ∨ ∃ w, w < W ∧ tk w = 2 ∧ to w = t ∧ tt w = tn t
/-- reads and what was written -/
def be_J5 (cnt c0 c1 : Nat) (wr rc rl rf : Nat → Nat) : Prop := ∀ t, t < cnt → rc t ≤ 2 ∧ (wr t = 0 ∨ wr t = 2 ^ c0 ||| 2 ^ c1) ∧ ∀ k, k < rc t → rl (12 * t + k) = be_ce c0 c1 k ∧ rf (12 * t + k) ≤ t
/-- the k-th read of t gave v -/
def be_Rec (c0 c1 : Nat) (st tn vt rf rt : Nat → Nat) (s0 vv : Nat → Int32) (t k : Nat) (v : Int32) : Prop :=
  rf (12 * t + k) ≤ t ∧ (rf (12 * t + k) = 0 → v = s0 (be_ce c0 c1 k)) ∧ (∀ f, rf (12 * t + k) = f + 1 → rt (12 * t + k) ≤ tn f ∧ (st f ≠ 2 → rt (12 * t + k) < tn f) ∧ (vt (8 * be_ce c0 c1 k + f) = rt (12 * t + k) → vv (8 * be_ce c0 c1 k + f) = v))
theorem be_Rec_mono {c0 c1 : Nat} {st tn vt rf rt st' tn' vt' rf' rt' : Nat → Nat} {s0 vv vv' : Nat → Int32} {t k : Nat} {v : Int32} (ht : t < 8) (h : be_Rec c0 c1 st tn vt rf rt s0 vv t k v)
    (hr : rf' (12 * t + k) = rf (12 * t + k) ∧ rt' (12 * t + k) = rt (12 * t + k))
    (hm : ∀ f, f < 8 → tn f ≤ tn' f ∧ (st' f ≠ 2 → st f ≠ 2 ∨ tn f < tn' f))
    (hv : ∀ f c, f < 8 → (vt' (8 * c + f) = vt (8 * c + f) ∧ vv' (8 * c + f) = vv (8 * c + f)) ∨ (st f ≠ 2 ∧ vt' (8 * c + f) = tn f)) :
    be_Rec c0 c1 st' tn' vt' rf' rt' s0 vv' t k v := by
  obtain ⟨h1, h2, h3⟩ := h
  unfold be_Rec
  rw [hr.1, hr.2]
  refine ⟨h1, h2, fun f hf => ?_⟩
  obtain ⟨g1, g2, g3⟩ := h3 f hf
  have hf8 : f < 8 := by omega
  have m1 := (hm f hf8).1
  have m2 := (hm f hf8).2
  refine ⟨by omega, fun hs => ?_, fun hs => ?_⟩
  · rcases m2 hs with q | q
    · have := g2 q
      omega
    · omega
  · rcases hv f (be_ce c0 c1 k) hf8 with q | q
    · rw [q.2]
      exact g3 (by rw [← q.1]; exact hs)
    · have := g2 q.1
      have := q.2
      omega
theorem be_RK_eq {st vt wr rl rf rt st' vt' wr' rl' rf' rt' : Nat → Nat} {t k : Nat} (hw : ∀ f, f < t → wr' f = wr f) (hs : ∀ f, f < t → (st' f = 2 ↔ st f = 2)) (hv : ∀ f c, f < t → vt' (8 * c + f) = vt (8 * c + f))
    (hr : rl' (12 * t + k) = rl (12 * t + k) ∧ rf' (12 * t + k) = rf (12 * t + k) ∧ rt' (12 * t + k) = rt (12 * t + k)) (hf : rf (12 * t + k) ≤ t) : be_RK st' vt' wr' rl' rf' rt' t k ↔ be_RK st vt wr rl rf rt t k := by
  have hn : ∀ c u, u ≤ t → be_nw c wr' u = be_nw c wr u := by
    intro c u
    induction u with
    | zero => intro _; rfl
    | succ u ih =>
      intro hu
      unfold be_nw
      rw [hw u (by omega), ih (by omega)]
  unfold be_RK
  rw [hr.1, hr.2.1, hr.2.2, hn _ t (Nat.le_refl t)]
  by_cases h0 : rf (12 * t + k) = 0
  · simp [h0]
  · rw [hs _ (by omega), hv _ _ (by omega)]
theorem be_RH_eq {st vt wr rc rl rf rt st' vt' wr' rc' rl' rf' rt' : Nat → Nat} {t : Nat} (hw : ∀ f, f < t → wr' f = wr f) (hs : ∀ f, f < t → (st' f = 2 ↔ st f = 2)) (hv : ∀ f c, f < t → vt' (8 * c + f) = vt (8 * c + f))
    (hc : rc' t = rc t) (hr : ∀ k, k < rc t → rl' (12 * t + k) = rl (12 * t + k) ∧ rf' (12 * t + k) = rf (12 * t + k) ∧ rt' (12 * t + k) = rt (12 * t + k)) (hf : ∀ k, k < rc t → rf (12 * t + k) ≤ t) : be_RH st' vt' wr' rc' rl' rf' rt' t ↔ be_RH st vt wr rc rl rf rt t := by
  unfold be_RH
  rw [hc]
  constructor
  · intro h k hk
    exact (be_RK_eq hw hs hv (hr k hk) (hf k hk)).mp (h k hk)
  · intro h k hk
    exact (be_RK_eq hw hs hv (hr k hk) (hf k hk)).mpr (h k hk)
/-- a transaction that is not the newest may lose its versions -/
theorem be_nw_drop {c t : Nat} {wr wr' : Nat → Nat} (hw : ∀ f, f ≠ t → wr' f = wr f) (hb : wr' t / 2 ^ c % 2 = 1 → wr t / 2 ^ c % 2 = 1) : ∀ j, be_nw c wr j ≠ t + 1 → be_nw c wr' j = be_nw c wr j := by
  intro j
  induction j with
  | zero => intro _; rfl
  | succ j ih =>
    intro h
    by_cases e : j = t
    · subst e
      by_cases hq : wr j / 2 ^ c % 2 = 1
      · exact absurd (show be_nw c wr (j + 1) = j + 1 from if_pos hq) h
      · have e1 : be_nw c wr (j + 1) = be_nw c wr j := if_neg hq
        have e2 : be_nw c wr' (j + 1) = be_nw c wr' j := if_neg (fun z => hq (hb z))
        rw [e1] at h ⊢
        rw [e2]
        exact ih h
    · by_cases hq : wr j / 2 ^ c % 2 = 1
      · have e1 : be_nw c wr (j + 1) = j + 1 := if_pos hq
        have e2 : be_nw c wr' (j + 1) = j + 1 := if_pos (by rw [hw j e]; exact hq)
        rw [e1, e2]
      · have e1 : be_nw c wr (j + 1) = be_nw c wr j := if_neg hq
        have e2 : be_nw c wr' (j + 1) = be_nw c wr' j := if_neg (by rw [hw j e]; exact hq)
        rw [e1] at h ⊢
        rw [e2]
        exact ih h
/-! the four plain invariants at each turn -/
theorem be_J1_nk {cnt nc nk : Nat} {st : Nat → Nat} (h : be_J1 cnt nc nk st) (hk : nk < cnt) : be_J1 cnt nc (nk + 1) st := ⟨h.1, by omega, h.2.2⟩
theorem be_J1_nc {cnt nc nk : Nat} {st : Nat → Nat} (h : be_J1 cnt nc nk st) (hk : nc < cnt) (hs : st nc ≠ 0) : be_J1 cnt (nc + 1) nk st := by
  refine ⟨by omega, h.2.1, fun t ht => ⟨(h.2.2 t ht).1, fun z => ?_⟩⟩
  have := (h.2.2 t ht).2 z
  have : t ≠ nc := fun e => hs (by rw [← e]; exact z)
  omega
theorem be_J1_begin {cnt nc nk : Nat} {st : Nat → Nat} (h : be_J1 cnt nc nk st) (hk : nc < cnt) : be_J1 cnt (nc + 1) nk (be_u st nc 1) := by
  refine ⟨by omega, h.2.1, fun t ht => ?_⟩
  have := h.2.2 t ht
  rw [be_u_eq]
  split
  · exact ⟨by omega, fun z => absurd z (by omega)⟩
  · exact ⟨this.1, fun z => by have := this.2 z; omega⟩
theorem be_J1_abort {cnt nc nk t : Nat} {st : Nat → Nat} (h : be_J1 cnt nc nk st) (hk : t < cnt) : be_J1 cnt (min nc t) (min nk (t + 1)) (be_u st t 0) := by
  obtain ⟨h1, h2, h3⟩ := h
  refine ⟨by omega, by omega, fun j hj => ?_⟩
  have := h3 j hj
  rw [be_u_eq]
  split
  · exact ⟨by omega, fun z => by omega⟩
  · exact ⟨this.1, fun z => by have := this.2 z; omega⟩
theorem be_J1_wait {cnt nc nk t : Nat} {st : Nat → Nat} (h : be_J1 cnt nc nk st) : be_J1 cnt nc nk (be_u st t 3) := by
  obtain ⟨h1, h2, h3⟩ := h
  refine ⟨by omega, by omega, fun j hj => ?_⟩
  have := h3 j hj
  rw [be_u_eq]
  split
  · exact ⟨by omega, fun z => by omega⟩
  · exact ⟨this.1, fun z => by have := this.2 z; omega⟩
theorem be_J2_set {cnt t x : Nat} {st wt : Nat → Nat} (h : be_J2 cnt st wt) (hs : st t ≠ 3) (hx : x ≠ 3) (hx2 : x ≠ 2) : be_J2 cnt (be_u st t x) wt := by
  obtain ⟨h1, h2, h3⟩ := h
  refine ⟨fun j hj hz => ?_, fun f j hb => ?_, h3⟩
  · rw [be_u_eq] at hz
    split at hz
    · omega
    · exact h1 j hj hz
  · have := h2 f j hb
    have hjt : j ≠ t := fun e => hs (by rw [← e]; exact this.2.2.1)
    refine ⟨this.1, this.2.1, by rw [be_un hjt]; exact this.2.2.1, ?_⟩
    rw [be_u_eq]
    split
    · exact hx2
    · exact this.2.2.2
theorem be_J2_wait {cnt t g : Nat} {st wt : Nat → Nat} (h : be_J2 cnt st wt) (hs : st t = 1) (ht : t < cnt) (hg : g < t) (hg2 : st g ≠ 2) : be_J2 cnt (be_u st t 3) (be_u wt g (wt g ||| 2 ^ t)) := by
  obtain ⟨h1, h2, h3⟩ := h
  have nob : ∀ f, ¬ wt f / 2 ^ t % 2 = 1 := fun f hb => by have := (h2 f t hb).2.2.1; omega
  have key : ∀ f j, be_u wt g (wt g ||| 2 ^ t) f / 2 ^ j % 2 = 1 ↔ (wt f / 2 ^ j % 2 = 1 ∨ (f = g ∧ j = t)) := by
    intro f j
    rw [be_u_eq]
    split
    · rename_i e
      subst e
      rw [be_or_bit]
      simp
    · rename_i e
      simp [e]
  refine ⟨fun j hj hz => ?_, fun f j hb => ?_, fun f f' j hb hb' => ?_⟩
  · by_cases e : j = t
    · exact ⟨g, by omega, (key g j).mpr (Or.inr ⟨rfl, e⟩)⟩
    · rw [be_un e] at hz
      obtain ⟨f, hf, hb⟩ := h1 j hj hz
      exact ⟨f, hf, (key f j).mpr (Or.inl hb)⟩
  · rcases (key f j).mp hb with q | ⟨rfl, rfl⟩
    · have := h2 f j q
      have hjt : j ≠ t := fun e => nob f (by rw [← e]; exact q)
      refine ⟨this.1, this.2.1, by rw [be_un hjt]; exact this.2.2.1, ?_⟩
      rw [be_u_eq]
      split
      · omega
      · exact this.2.2.2
    · refine ⟨hg, ht, be_us, ?_⟩
      rw [be_un (by omega)]
      exact hg2
  · rcases (key f j).mp hb with q | ⟨rfl, rfl⟩
    · rcases (key f' j).mp hb' with q' | ⟨rfl, rfl⟩
      · exact h3 f f' j q q'
      · exact absurd q (nob f)
    · rcases (key f' j).mp hb' with q' | ⟨rfl, _⟩
      · exact absurd q' (nob f')
      · rfl
theorem be_J3_begin {cnt W t w : Nat} {st tn tk to tt : Nat → Nat} (h : be_J3 cnt W st tn tk to tt) (ht : t < cnt) (hs : st t = 0) (hw : w < W) (hk : tk w = 0) : be_J3 cnt W (be_u st t 1) tn (be_u tk w 1) (be_u to w t) (be_u tt w (tn t)) := by
  obtain ⟨h1, h2, h3⟩ := h
  refine ⟨fun j hj hz => ?_, fun v hv => ?_, fun u v hu hv => ?_⟩
  · by_cases e : j = t
    · exact ⟨w, hw, be_us, by rw [be_us, e]⟩
    · rw [be_un e] at hz
      obtain ⟨v, hv, a, b⟩ := h1 j hj hz
      have : v ≠ w := fun e => by rw [e] at a; omega
      exact ⟨v, hv, by rw [be_un this]; exact a, by rw [be_un this]; exact b⟩
  · by_cases e : v = w
    · subst e
      rw [be_us, be_us, be_us, be_us]
      exact ⟨by omega, fun _ => ht, fun _ => ⟨rfl, rfl⟩⟩
    · rw [be_un e, be_un e, be_un e]
      obtain ⟨a, b, c⟩ := h2 v hv
      refine ⟨a, b, fun z => ?_⟩
      have := c z
      have hne : to v ≠ t := fun e => by rw [e] at this; omega
      exact ⟨by rw [be_un hne]; exact this.1, this.2⟩
  · intro a b c
    by_cases eu : u = w
    · by_cases ev : v = w
      · omega
      · subst eu
        rw [be_us, be_un ev] at c
        rw [be_un ev] at b
        have := ((h2 v hv).2.2 b).1
        rw [← c] at this
        omega
    · by_cases ev : v = w
      · subst ev
        rw [be_us, be_un eu] at c
        rw [be_un eu] at a
        have := ((h2 u hu).2.2 a).1
        rw [c] at this
        omega
      · rw [be_un eu] at a c
        rw [be_un ev] at b c
        exact h3 u v hu hv a b c
/-- a worker with another task than carrying takes one: none, or a check -/
theorem be_J3_task {cnt W w x t y : Nat} {st tn tk to tt : Nat → Nat} (h : be_J3 cnt W st tn tk to tt) (hk : tk w ≠ 1) (hx : x ≠ 1) (hx2 : x ≤ 2) (ht : t < cnt) : be_J3 cnt W st tn (be_u tk w x) (be_u to w t) (be_u tt w y) := by
  obtain ⟨h1, h2, h3⟩ := h
  refine ⟨fun j hj hz => ?_, fun v hv => ?_, fun u v hu hv => ?_⟩
  · obtain ⟨v, hv, a, b⟩ := h1 j hj hz
    have : v ≠ w := fun e => by rw [e] at a; omega
    exact ⟨v, hv, by rw [be_un this]; exact a, by rw [be_un this]; exact b⟩
  · by_cases e : v = w
    · subst e
      rw [be_us, be_us, be_us]
      exact ⟨hx2, fun _ => ht, fun z => absurd z hx⟩
    · rw [be_un e, be_un e, be_un e]
      exact h2 v hv
  · intro a b c
    have eu : u ≠ w := fun e => by rw [e, be_us] at a; omega
    have ev : v ≠ w := fun e => by rw [e, be_us] at b; omega
    rw [be_un eu] at a c
    rw [be_un ev] at b c
    exact h3 u v hu hv a b c
theorem be_J3_idle {cnt W w : Nat} {st tn tk to tt : Nat → Nat} (h : be_J3 cnt W st tn tk to tt) (hk : tk w ≠ 1) : be_J3 cnt W st tn (be_u tk w 0) to tt := by
  obtain ⟨h1, h2, h3⟩ := h
  refine ⟨fun j hj hz => ?_, fun v hv => ?_, fun u v hu hv => ?_⟩
  · obtain ⟨v, hv, a, b⟩ := h1 j hj hz
    have : v ≠ w := fun e => by rw [e] at a; omega
    exact ⟨v, hv, by rw [be_un this]; exact a, b⟩
  · by_cases e : v = w
    · subst e
      rw [be_us]
      exact ⟨by omega, fun z => absurd rfl z, fun z => absurd z (by omega)⟩
    · rw [be_un e]
      exact h2 v hv
  · intro a b c
    have eu : u ≠ w := fun e => by rw [e, be_us] at a; omega
    have ev : v ≠ w := fun e => by rw [e, be_us] at b; omega
    rw [be_un eu] at a
    rw [be_un ev] at b
    exact h3 u v hu hv a b c
/-- one that is not carried becomes ready, or anything but carried -/
theorem be_J3_st {cnt W t x y : Nat} {st tn tk to tt : Nat → Nat} (h : be_J3 cnt W st tn tk to tt) (hs : st t ≠ 1) (hx : x ≠ 1) : be_J3 cnt W (be_u st t x) (be_u tn t y) tk to tt := by
  obtain ⟨h1, h2, h3⟩ := h
  refine ⟨fun j hj hz => ?_, fun v hv => ?_, h3⟩
  · by_cases e : j = t
    · rw [e, be_us] at hz
      omega
    · rw [be_un e] at hz
      exact h1 j hj hz
  · obtain ⟨a, b, c⟩ := h2 v hv
    refine ⟨a, b, fun z => ?_⟩
    have := c z
    have hne : to v ≠ t := fun e => by rw [e] at this; omega
    rw [be_un hne, be_un hne]
    exact this
/-- a worker stops carrying t, and t is no longer carried -/
theorem be_J3_stop {cnt W w x : Nat} {st tn tk to tt : Nat → Nat} (h : be_J3 cnt W st tn tk to tt) (hw : w < W) (hk : tk w = 1) (hx : x ≠ 1) : be_J3 cnt W (be_u st (to w) x) tn (be_u tk w 0) to tt := by
  obtain ⟨h1, h2, h3⟩ := h
  refine ⟨fun j hj hz => ?_, fun v hv => ?_, fun u v hu hv => ?_⟩
  · by_cases e : j = to w
    · rw [e, be_us] at hz
      omega
    · rw [be_un e] at hz
      obtain ⟨v, hv, a, b⟩ := h1 j hj hz
      have : v ≠ w := fun q => e (by rw [← b, q])
      exact ⟨v, hv, by rw [be_un this]; exact a, b⟩
  · by_cases e : v = w
    · subst e
      rw [be_us]
      exact ⟨by omega, fun z => absurd rfl z, fun z => absurd z (by omega)⟩
    · rw [be_un e]
      obtain ⟨a, b, c⟩ := h2 v hv
      refine ⟨a, b, fun z => ?_⟩
      have := c z
      have hne : to v ≠ to w := fun q => e (h3 v w hv hw z hk q)
      rw [be_un hne]
      exact this
  · intro a b c
    have eu : u ≠ w := fun e => by rw [e, be_us] at a; omega
    have ev : v ≠ w := fun e => by rw [e, be_us] at b; omega
    rw [be_un eu] at a
    rw [be_un ev] at b
    exact h3 u v hu hv a b c
end
section
theorem be_uu {f : Nat → Nat} {i x y : Nat} : be_u (be_u f i x) i y = be_u f i y := by
  funext j
  rw [be_u_eq, be_u_eq, be_u_eq]
  split <;> rfl
theorem be_wst_eq (m : Nat) (st : Nat → Nat) (j : Nat) : ∀ d, be_wst m st d j = if j < d ∧ m / 2 ^ j % 2 = 1 then 0 else st j := by
  intro d
  induction d with
  | zero => rw [if_neg (fun z => absurd z.1 (by omega))]; rfl
  | succ d ih =>
    unfold be_wst
    by_cases hb : m / 2 ^ d % 2 = 1
    · rw [if_pos hb, be_u_eq]
      by_cases e : j = d
      · subst e
        rw [if_pos rfl, if_pos ⟨by omega, hb⟩]
      · rw [if_neg e, ih]
        by_cases q : j < d ∧ m / 2 ^ j % 2 = 1
        · rw [if_pos q, if_pos ⟨by omega, q.2⟩]
        · rw [if_neg q, if_neg (fun z => q ⟨by omega, z.2⟩)]
    · rw [if_neg hb, ih]
      by_cases q : j < d ∧ m / 2 ^ j % 2 = 1
      · rw [if_pos q, if_pos ⟨by omega, q.2⟩]
      · rw [if_neg q]
        rw [if_neg (fun z => q ⟨by
          have : j ≠ d := fun e => hb (by rw [← e]; exact z.2)
          omega, z.2⟩)]
theorem be_wtn_eq (m : Nat) (tn : Nat → Nat) (j : Nat) : ∀ d, be_wtn m tn d j = if j < d ∧ m / 2 ^ j % 2 = 1 then tn j + 1 else tn j := by
  intro d
  induction d with
  | zero => rw [if_neg (fun z => absurd z.1 (by omega))]; rfl
  | succ d ih =>
    unfold be_wtn
    by_cases hb : m / 2 ^ d % 2 = 1
    · rw [if_pos hb, be_u_eq]
      by_cases e : j = d
      · subst e
        rw [if_pos rfl, if_pos ⟨by omega, hb⟩, ih, if_neg (fun z => absurd z.1 (by omega))]
      · rw [if_neg e, ih]
        by_cases q : j < d ∧ m / 2 ^ j % 2 = 1
        · rw [if_pos q, if_pos ⟨by omega, q.2⟩]
        · rw [if_neg q, if_neg (fun z => q ⟨by omega, z.2⟩)]
    · rw [if_neg hb, ih]
      by_cases q : j < d ∧ m / 2 ^ j % 2 = 1
      · rw [if_pos q, if_pos ⟨by omega, q.2⟩]
      · rw [if_neg q]
        rw [if_neg (fun z => q ⟨by
          have : j ≠ d := fun e => hb (by rw [← e]; exact z.2)
          omega, z.2⟩)]
theorem be_wnc_bit (m nc : Nat) (j : Nat) (hb : m / 2 ^ j % 2 = 1) : ∀ d, j < d → be_wnc m nc d ≤ j := by
  intro d
  induction d with
  | zero => intro h; omega
  | succ d ih =>
    intro h
    unfold be_wnc
    by_cases e : j = d
    · subst e
      rw [if_pos hb]
      exact Nat.min_le_right _ _
    · have := ih (by omega)
      split
      · have := Nat.min_le_left (be_wnc m nc d) d
        omega
      · exact this
theorem be_wnc_lo (m nc x : Nat) (hx : x ≤ nc) (hb : ∀ j, m / 2 ^ j % 2 = 1 → x ≤ j) : ∀ d, x ≤ be_wnc m nc d := by
  intro d
  induction d with
  | zero => exact hx
  | succ d ih =>
    unfold be_wnc
    split
    · rename_i q
      exact Nat.le_min.mpr ⟨ih, hb d q⟩
    · exact ih
/-! the plain invariants when a transaction ends -/
theorem be_J1_fin {cnt nc nk nk' t m : Nat} {st : Nat → Nat} (hc : cnt ≤ 8) (h : be_J1 cnt nc nk st) (hk : nk' ≤ cnt) : be_J1 cnt (be_wnc m nc 8) nk' (be_wst m (be_u st t 2) 8) := by
  obtain ⟨h1, h2, h3⟩ := h
  have hle := be_wnc_le m nc 8
  refine ⟨by omega, hk, fun j hj => ?_⟩
  rw [be_wst_eq]
  split
  · rename_i q
    exact ⟨by omega, fun _ => be_wnc_bit m nc j q.2 8 (by omega)⟩
  · have := h3 j hj
    rw [be_u_eq]
    split
    · exact ⟨by omega, fun z => absurd z (by omega)⟩
    · exact ⟨this.1, fun z => by have := this.2 z; omega⟩
theorem be_J2_fin {cnt t : Nat} {st wt : Nat → Nat} (hc : cnt ≤ 8) (h : be_J2 cnt st wt) (hs : st t = 1) : be_J2 cnt (be_wst (wt t) (be_u st t 2) 8) (be_u wt t 0) := by
  obtain ⟨h1, h2, h3⟩ := h
  refine ⟨fun j hj hz => ?_, fun f j hb => ?_, fun f g j hb hb' => ?_⟩
  · rw [be_wst_eq] at hz
    split at hz
    · omega
    · rename_i q
      rw [be_u_eq] at hz
      split at hz
      · omega
      · obtain ⟨f, hf, hb⟩ := h1 j hj hz
        have : f ≠ t := fun e => q ⟨by omega, by rw [← e]; exact hb⟩
        exact ⟨f, hf, by rw [be_un this]; exact hb⟩
  · have hft : f ≠ t := fun e => by
      rw [e, be_us] at hb
      exact be_bit0 j hb
    rw [be_un hft] at hb
    have q := h2 f j hb
    have hjt : j ≠ t := fun e => by rw [e] at q; omega
    refine ⟨q.1, q.2.1, ?_, ?_⟩
    · rw [be_wst_eq, if_neg (fun z => hft (h3 f t j hb z.2)), be_un hjt]
      exact q.2.2.1
    · rw [be_wst_eq]
      split
      · omega
      · rw [be_un hft]
        exact q.2.2.2
  · have hft : f ≠ t := fun e => by
      rw [e, be_us] at hb
      exact be_bit0 j hb
    have hgt : g ≠ t := fun e => by
      rw [e, be_us] at hb'
      exact be_bit0 j hb'
    rw [be_un hft] at hb
    rw [be_un hgt] at hb'
    exact h3 f g j hb hb'
theorem be_J3_wake {cnt W m d : Nat} {st tn tk to tt : Nat → Nat} (h : be_J3 cnt W st tn tk to tt) (hm : ∀ j, m / 2 ^ j % 2 = 1 → st j ≠ 1) : be_J3 cnt W (be_wst m st d) (be_wtn m tn d) tk to tt := by
  obtain ⟨h1, h2, h3⟩ := h
  refine ⟨fun j hj hz => ?_, fun v hv => ?_, h3⟩
  · rw [be_wst_eq] at hz
    split at hz
    · omega
    · exact h1 j hj hz
  · obtain ⟨a, b, c⟩ := h2 v hv
    refine ⟨a, b, fun z => ?_⟩
    have q := c z
    have : ¬ (to v < d ∧ m / 2 ^ (to v) % 2 = 1) := fun e => hm _ e.2 q.1
    rw [be_wst_eq, be_wtn_eq, if_neg this, if_neg this]
    exact q
/-! coverage -/
theorem be_J4_nk {cnt W nk : Nat} {st tn vt wr rc rl rf rt tk to tt : Nat → Nat} (h : be_J4 cnt W nk st tn vt wr rc rl rf rt tk to tt) (hs : st nk ≠ 2) : be_J4 cnt W (nk + 1) st tn vt wr rc rl rf rt tk to tt := by
  intro t ht hz
  rcases h t ht hz with q | q | q
  · exact Or.inl q
  · have : t ≠ nk := fun e => hs (by rw [← e]; exact hz)
    exact Or.inr (Or.inl (by omega))
  · exact Or.inr (Or.inr q)
theorem be_J4_take {cnt W nk w : Nat} {st tn vt wr rc rl rf rt tk to tt : Nat → Nat} (h : be_J4 cnt W nk st tn vt wr rc rl rf rt tk to tt) (hw : w < W) (hk : tk w ≠ 2) : be_J4 cnt W (nk + 1) st tn vt wr rc rl rf rt (be_u tk w 2) (be_u to w nk) (be_u tt w (tn nk)) := by
  intro t ht hz
  by_cases e : t = nk
  · subst e
    exact Or.inr (Or.inr ⟨w, hw, be_us, be_us, be_us⟩)
  · rcases h t ht hz with q | q | ⟨v, hv, q1, q2, q3⟩
    · exact Or.inl q
    · exact Or.inr (Or.inl (by omega))
    · have : v ≠ w := fun e => hk (by rw [← e]; exact q1)
      exact Or.inr (Or.inr ⟨v, hv, by rw [be_un this]; exact q1, by rw [be_un this]; exact q2, by rw [be_un this]; exact q3⟩)
/-- states change from not executed to not executed, reads of others don't, a worker not checking does something else -/
theorem be_J4_keep {cnt W nk w : Nat} {st tn vt wr rc rl rf rt tk to tt st' rc' rl' rf' rt' tk' to' tt' : Nat → Nat} (h : be_J4 cnt W nk st tn vt wr rc rl rf rt tk to tt) (hk : tk w ≠ 2)
    (hs : ∀ f, (st' f = 2 ↔ st f = 2)) (hr : ∀ t, t < cnt → st t = 2 → rc' t = rc t ∧ ∀ k, k < rc t → rf (12 * t + k) ≤ t ∧ rl' (12 * t + k) = rl (12 * t + k) ∧ rf' (12 * t + k) = rf (12 * t + k) ∧ rt' (12 * t + k) = rt (12 * t + k))
    (hv : ∀ v, v ≠ w → tk' v = tk v ∧ to' v = to v ∧ tt' v = tt v) : be_J4 cnt W nk st' tn vt wr rc' rl' rf' rt' tk' to' tt' := by
  intro t ht hz
  have hz2 := (hs t).mp hz
  have hq := hr t ht hz2
  rcases h t ht hz2 with q | q | ⟨v, hv1, q1, q2, q3⟩
  · exact Or.inl ((be_RH_eq (fun _ _ => rfl) (fun f _ => hs f) (fun _ _ _ => rfl) hq.1 (fun k hk => (hq.2 k hk).2) (fun k hk => (hq.2 k hk).1)).mpr q)
  · exact Or.inr (Or.inl q)
  · have : v ≠ w := fun e => hk (by rw [← e]; exact q1)
    obtain ⟨e1, e2, e3⟩ := hv v this
    exact Or.inr (Or.inr ⟨v, hv1, by rw [e1]; exact q1, by rw [e2]; exact q2, by rw [e3]; exact q3⟩)
theorem be_J4_idle {cnt W nk w : Nat} {st tn vt wr rc rl rf rt tk to tt : Nat → Nat} (h : be_J4 cnt W nk st tn vt wr rc rl rf rt tk to tt)
    (hn : ¬ (st (to w) = 2 ∧ tn (to w) = tt w ∧ ¬ be_RH st vt wr rc rl rf rt (to w))) : be_J4 cnt W nk st tn vt wr rc rl rf rt (be_u tk w 0) to tt := by
  intro t ht hz
  rcases h t ht hz with q | q | ⟨v, hv1, q1, q2, q3⟩
  · exact Or.inl q
  · exact Or.inr (Or.inl q)
  · by_cases e : v = w
    · subst e
      refine Or.inl (Classical.byContradiction fun z => hn ⟨?_, ?_, ?_⟩)
      · rw [q2]; exact hz
      · rw [q2]; exact q3.symm
      · rw [q2]; exact z
    · exact Or.inr (Or.inr ⟨v, hv1, by rw [be_un e]; exact q1, q2, q3⟩)
theorem be_J4_abort {cnt W nk w t : Nat} {st tn vt wr rc rl rf rt tk to tt : Nat → Nat} (h : be_J4 cnt W nk st tn vt wr rc rl rf rt tk to tt) (hw : to w = t) (hf : ∀ j, j < cnt → ∀ k, k < rc j → rf (12 * j + k) ≤ j) :
    be_J4 cnt W (min nk (t + 1)) (be_u st t 0) (be_u tn t (tn t + 1)) vt wr rc rl rf rt (be_u tk w 0) to tt := by
  intro j hj hz
  have hjt : j ≠ t := fun e => by rw [e, be_us] at hz; omega
  rw [be_un hjt] at hz
  rw [be_un hjt]
  by_cases hlt : t < j
  · exact Or.inr (Or.inl (by omega))
  · rcases h j hj hz with q | q | ⟨v, hv1, q1, q2, q3⟩
    · refine Or.inl ((be_RH_eq (fun _ _ => rfl) (fun f hf => ?_) (fun _ _ _ => rfl) rfl (fun k hk => ⟨rfl, rfl, rfl⟩) (hf j hj)).mpr q)
      rw [be_un (by omega)]
    · exact Or.inr (Or.inl (by omega))
    · have : v ≠ w := fun e => hjt (by rw [← q2, e, hw])
      exact Or.inr (Or.inr ⟨v, hv1, by rw [be_un this]; exact q1, q2, q3⟩)
theorem be_J4_fin {cnt W nk nk' w t S : Nat} {st tn vt wr rc rl rf rt tk to tt st' tn' vt' wr' tk' to' tt' : Nat → Nat} (hc : cnt ≤ 8) (h : be_J4 cnt W nk st tn vt wr rc rl rf rt tk to tt) (hw : w < W) (hk : tk w = 1) (ht1 : st t = 1)
    (hf : ∀ j, j < cnt → ∀ k, k < rc j → rf (12 * j + k) ≤ j)
    (hst : ∀ f, f ≠ t → (st' f = 2 ↔ st f = 2)) (htn : ∀ f, st f = 2 → tn' f = tn f) (hvt : ∀ f c, f < 8 → f ≠ t → vt' (8 * c + f) = vt (8 * c + f)) (hwr : ∀ f, f ≠ t → wr' f = wr f)
    (hv : ∀ v, v ≠ w → tk' v = tk v ∧ to' v = to v ∧ tt' v = tt v)
    (hcase : (nk ≤ t ∧ nk' = nk) ∨ (t < nk ∧ nk' = t) ∨ (t < nk ∧ nk' = nk ∧ tk' w = 2 ∧ to' w = t ∧ tt' w = tn' t ∧ ∀ c, wr' t / 2 ^ c % 2 = 1 → wr t / 2 ^ c % 2 = 1)) :
    be_J4 cnt W nk' st' tn' vt' wr' rc rl rf rt tk' to' tt' := by
  intro j hj hz
  by_cases e : j = t
  · subst e
    rcases hcase with q | q | q
    · exact Or.inr (Or.inl (by omega))
    · exact Or.inr (Or.inl (by omega))
    · exact Or.inr (Or.inr ⟨w, hw, q.2.2.1, q.2.2.2.1, q.2.2.2.2.1⟩)
  · have hz2 := (hst j e).mp hz
    rcases h j hj hz2 with q | q | ⟨v, hv1, q1, q2, q3⟩
    · by_cases hlt : j < t
      · refine Or.inl ((be_RH_eq (fun f hf => hwr f (by omega)) (fun f hf => hst f (by omega)) (fun f c hf => hvt f c (by omega) (by omega)) rfl (fun k hk => ⟨rfl, rfl, rfl⟩) (hf j hj)).mpr q)
      · rcases hcase with z | z | z
        · exact Or.inr (Or.inl (by omega))
        · exact Or.inr (Or.inl (by omega))
        · refine Or.inl (fun k hk => ?_)
          obtain ⟨q1, q2⟩ := q k hk
          have hle := hf j hj k hk
          have hne : rf (12 * j + k) ≠ t + 1 := fun e2 => by
            have := (q2 (by omega)).1
            rw [e2] at this
            simp at this
            omega
          refine ⟨?_, fun h0 => ?_⟩
          · rw [be_nw_drop hwr (z.2.2.2.2.2 _) j (by rw [q1]; exact hne)]
            exact q1
          · obtain ⟨r1, r2⟩ := q2 h0
            have hne2 : rf (12 * j + k) - 1 ≠ t := by omega
            exact ⟨(hst _ hne2).mpr r1, by rw [hvt _ _ (by omega) hne2]; exact r2⟩
    · rcases hcase with z | z | z
      · exact Or.inr (Or.inl (by omega))
      · exact Or.inr (Or.inl (by omega))
      · exact Or.inr (Or.inl (by omega))
    · have hvw : v ≠ w := fun e => by rw [e] at q1; omega
      obtain ⟨e1, e2, e3⟩ := hv v hvw
      exact Or.inr (Or.inr ⟨v, hv1, by rw [e1]; exact q1, by rw [e2]; exact q2, by rw [e3, htn j hz2]; exact q3⟩)
theorem be_new_sub {S m M : Nat} (hM : M < 2 ^ 31) (hM0 : M ≠ 0) (hS : S = 0 ∨ S = M) (hm : m = 0 ∨ m = M) (h : ¬ be_new S m) : ∀ c, S / 2 ^ c % 2 = 1 → m / 2 ^ c % 2 = 1 := by
  intro c hc
  rcases hS with rfl | rfl
  · exact absurd hc (be_bit0 c)
  · rcases hm with rfl | rfl
    · refine absurd ?_ h
      unfold be_new
      have e1 : nI 0 ^^^ (-1) = (-1 : Int32) := by decide
      rw [e1]
      have e2 : nI S &&& (-1) = nI S := by
        apply Int32.toBitVec_inj.mp
        rw [Int32.toBitVec_and]
        exact BitVec.and_allOnes
      rw [e2]
      exact nI_ne0 (by omega) hM
    · exact hc
theorem be_J5_begin {cnt c0 c1 t : Nat} {wr rc rl rf : Nat → Nat} (h : be_J5 cnt c0 c1 wr rc rl rf) : be_J5 cnt c0 c1 wr (be_u rc t 0) rl rf := by
  intro j hj
  obtain ⟨h1, h2, h3⟩ := h j hj
  by_cases e : j = t
  · subst e
    rw [be_us]
    exact ⟨by omega, h2, fun k hk => absurd hk (by omega)⟩
  · rw [be_un e]
    exact ⟨h1, h2, h3⟩
theorem be_J5_read {cnt c0 c1 t n : Nat} {wr rc rl rf : Nat → Nat} (h : be_J5 cnt c0 c1 wr rc rl rf) (ht : t < cnt) (hc : cnt ≤ 8) (hr : rc t < 2) (hn : n ≤ t) : be_J5 cnt c0 c1 wr (be_u rc t (rc t + 1)) (be_u rl (12 * t + rc t) (be_ce c0 c1 (rc t))) (be_u rf (12 * t + rc t) n) := by
  intro j hj
  obtain ⟨h1, h2, h3⟩ := h j hj
  by_cases e : j = t
  · subst e
    rw [be_us]
    refine ⟨by omega, h2, fun k hk => ?_⟩
    by_cases e2 : k = rc j
    · subst e2
      rw [be_us, be_us]
      exact ⟨rfl, hn⟩
    · rw [be_un (by omega), be_un (by omega)]
      exact h3 k (by omega)
  · rw [be_un e]
    refine ⟨h1, h2, fun k hk => ?_⟩
    rw [be_un (by omega), be_un (by omega)]
    exact h3 k hk
theorem be_J5_fin {cnt c0 c1 t S : Nat} {wr rc rl rf : Nat → Nat} (h : be_J5 cnt c0 c1 wr rc rl rf) (hS : S = 0 ∨ S = 2 ^ c0 ||| 2 ^ c1) : be_J5 cnt c0 c1 (be_u wr t S) rc rl rf := by
  intro j hj
  obtain ⟨h1, h2, h3⟩ := h j hj
  refine ⟨h1, ?_, h3⟩
  rw [be_u_eq]
  split
  · exact hS
  · exact h2
end
section
abbrev be_rec (c0 c1 : Nat) (s0 : Nat → Int32) (N : Nat → Nat → Nat) (V : Nat → Nat → Int32) (t k : Nat) (v : Int32) : Prop := be_Rec c0 c1 (N 9) (N 10) (N 7) (N 14) (N 15) s0 (V 6) t k v
abbrev be_rh (N : Nat → Nat → Nat) (t : Nat) : Prop := be_RH (N 9) (N 7) (N 8) (N 12) (N 13) (N 14) (N 15) t
/-- what an executed transaction left -/
def be_Dn (cnt c0 c1 : Nat) (am nd : Int32) (s0 : Nat → Int32) (N : Nat → Nat → Nat) (V : Nat → Nat → Int32) (t : Nat) : Prop :=
  ∃ v1, be_rec c0 c1 s0 N V t 0 v1 ∧ ((v1 < nd ∧ N 16 t = 1 ∧ N 8 t = 0 ∧ N 12 t = 1) ∨
    (¬ v1 < nd ∧ N 16 t = 0 ∧ N 8 t = 2 ^ c0 ||| 2 ^ c1 ∧ N 12 t = 2 ∧ ∃ v2, be_rec c0 c1 s0 N V t 1 v2 ∧ V 6 (8 * c0 + t) = v1 - am ∧ V 6 (8 * c1 + t) = v2 + am ∧ N 7 (8 * c0 + t) = N 10 t ∧ N 7 (8 * c1 + t) = N 10 t ∧
      N 17 t = (if t + 1 = cnt then 3 else 2) ∧ V 18 (12 * t + 0) = v1 - am ∧ V 18 (12 * t + 1) = v2 + am ∧ (t + 1 = cnt → V 18 (12 * t + 2) = am * (v2 + am))))
/-- how far a worker is with what it carries -/
def be_Rn (cnt c0 c1 a b : Nat) (am nd : Int32) (s0 : Nat → Int32) (N : Nat → Nat → Nat) (V : Nat → Nat → Int32) (w t p : Nat) : Prop :=
  (p = 0 ∧ N 12 t = 0 ∧ N 24 w = 0 ∧ N 26 w = 0 ∧ N 17 t = 0) ∨
  ∃ v1, be_rec c0 c1 s0 N V t 0 v1 ∧
    ((p = 1 ∧ N 12 t = 1 ∧ N 24 w = 0 ∧ N 26 w = 0 ∧ N 17 t = 0 ∧ V 23 (4 * w + a) = v1) ∨
     (p = 12 ∧ N 12 t = 1 ∧ N 26 w = 1 ∧ v1 < nd) ∨
     (¬ v1 < nd ∧ N 26 w = 0 ∧ 2 ≤ p ∧ p ≤ 6 ∧ N 12 t = 1 ∧ (p ≤ 3 → V 23 (4 * w + a) = v1) ∧ (4 ≤ p → V 23 (4 * w + a) = v1 - am) ∧ (3 ≤ p → V 23 (4 * w + b) = am) ∧ (p ≤ 4 → N 24 w = 0) ∧ (5 ≤ p → N 24 w = 2 ^ c0 ∧ V 25 (16 * w + c0) = v1 - am) ∧ (p ≤ 5 → N 17 t = 0) ∧ (p = 6 → N 17 t = 1 ∧ V 18 (12 * t + 0) = v1 - am)) ∨
     (¬ v1 < nd ∧ N 26 w = 0 ∧ 7 ≤ p ∧ p ≤ 12 ∧ N 12 t = 2 ∧ V 25 (16 * w + c0) = v1 - am ∧ V 18 (12 * t + 0) = v1 - am ∧ ∃ v2, be_rec c0 c1 s0 N V t 1 v2 ∧ (p ≤ 10 → V 23 (4 * w + b) = am) ∧ (p = 7 → V 23 (4 * w + a) = v2) ∧ (8 ≤ p → V 23 (4 * w + a) = v2 + am) ∧ (p ≤ 8 → N 24 w = 2 ^ c0) ∧ (9 ≤ p → N 24 w = 2 ^ c0 ||| 2 ^ c1 ∧ V 25 (16 * w + c1) = v2 + am) ∧
       (p ≤ 9 → N 17 t = 1) ∧ (10 ≤ p → V 18 (12 * t + 1) = v2 + am) ∧ (10 ≤ p → p ≤ 11 → N 17 t = 2) ∧ (11 ≤ p → V 23 (4 * w + b) = am * (v2 + am) ∧ t + 1 = cnt) ∧ (p = 12 → N 17 t = 3 ∧ V 18 (12 * t + 2) = am * (v2 + am))))
/-- the program of a transaction -/
def be_PT (cnt c0 c1 a b : Nat) (am nd : Int32) (N : Nat → Nat → Nat) (V : Nat → Nat → Int32) (t : Nat) : Prop :=
  N 2 t = (if t + 1 = cnt then 12 else 10) ∧
  (N 3 (12 * t + 0) = 3 ∧ N 4 (12 * t + 0) = 5 * a ∧ V 5 (12 * t + 0) &&& 15 = nI c0) ∧
  (N 3 (12 * t + 1) = 7 ∧ N 4 (12 * t + 1) = 4 * a + b ∧ V 5 (12 * t + 1) = nd) ∧
  (N 3 (12 * t + 2) = 0 ∧ N 4 (12 * t + 2) = 5 * b ∧ V 5 (12 * t + 2) = am) ∧
  (N 3 (12 * t + 3) = 2 ∧ N 4 (12 * t + 3) = 4 * a + b) ∧
  (N 3 (12 * t + 4) = 4 ∧ N 4 (12 * t + 4) = 4 * a ∧ V 5 (12 * t + 4) &&& 15 = nI c0) ∧
  (N 3 (12 * t + 5) = 8 ∧ N 4 (12 * t + 5) = 4 * a) ∧
  (N 3 (12 * t + 6) = 3 ∧ N 4 (12 * t + 6) = 4 * a + b ∧ V 5 (12 * t + 6) &&& 15 = nI c1) ∧
  (N 3 (12 * t + 7) = 1 ∧ N 4 (12 * t + 7) = 4 * a + b) ∧
  (N 3 (12 * t + 8) = 4 ∧ N 4 (12 * t + 8) = 5 * a ∧ V 5 (12 * t + 8) &&& 15 = nI c1) ∧
  (N 3 (12 * t + 9) = 8 ∧ N 4 (12 * t + 9) = 4 * a) ∧
  (t + 1 = cnt → N 3 (12 * t + 10) = 5 ∧ N 4 (12 * t + 10) = 4 * b + a ∧ N 3 (12 * t + 11) = 8 ∧ N 4 (12 * t + 11) = 4 * b)
/-- the constants of a run -/
def be_Cs (cnt W c0 c1 a b : Nat) : Prop := 1 ≤ cnt ∧ cnt ≤ 8 ∧ 1 ≤ W ∧ W ≤ 6 ∧ c0 < 16 ∧ c1 < 16 ∧ c0 ≠ c1 ∧ a < 4 ∧ b < 4 ∧ a ≠ b
def be_Inv (cnt W c0 c1 a b : Nat) (am nd : Int32) (s0 : Nat → Int32) (N : Nat → Nat → Nat) (V : Nat → Nat → Int32) : Prop :=
  ((∀ f j, N f j < 1048576) ∧ (∀ j, N 10 j ≤ N 0 6)) ∧
  (N 0 0 = cnt ∧ N 0 1 = 1 ∧ N 0 2 = W ∧ V 1 = s0 ∧ ∀ t, t < cnt → be_PT cnt c0 c1 a b am nd N V t) ∧
  be_J1 cnt (N 0 3) (N 0 4) (N 9) ∧ be_J2 cnt (N 9) (N 11) ∧ be_J3 cnt W (N 9) (N 10) (N 19) (N 20) (N 21) ∧
  be_J4 cnt W (N 0 4) (N 9) (N 10) (N 7) (N 8) (N 12) (N 13) (N 14) (N 15) (N 19) (N 20) (N 21) ∧ be_J5 cnt c0 c1 (N 8) (N 12) (N 13) (N 14) ∧
  (∀ t, t < cnt → N 9 t = 2 → be_Dn cnt c0 c1 am nd s0 N V t) ∧
  (∀ w, w < W → N 19 w = 1 → be_Rn cnt c0 c1 a b am nd s0 N V w (N 20 w) (N 22 w))
/-- what of a transaction stays -/
def be_kD (N N' : Nat → Nat → Nat) (V V' : Nat → Nat → Int32) (j : Nat) : Prop := N' 16 j = N 16 j ∧ N' 8 j = N 8 j ∧ N' 12 j = N 12 j ∧ N' 10 j = N 10 j ∧ N' 17 j = N 17 j ∧ (∀ c, N' 7 (8 * c + j) = N 7 (8 * c + j) ∧ V' 6 (8 * c + j) = V 6 (8 * c + j)) ∧ (∀ i, i < 12 → V' 18 (12 * j + i) = V 18 (12 * j + i) ∧ N' 14 (12 * j + i) = N 14 (12 * j + i) ∧ N' 15 (12 * j + i) = N 15 (12 * j + i))
/-- what of a worker and its transaction stays -/
def be_kR (N N' : Nat → Nat → Nat) (V V' : Nat → Nat → Int32) (v j : Nat) : Prop := N' 24 v = N 24 v ∧ N' 26 v = N 26 v ∧ N' 12 j = N 12 j ∧ N' 17 j = N 17 j ∧ (∀ i, i < 4 → V' 23 (4 * v + i) = V 23 (4 * v + i)) ∧ (∀ i, i < 16 → V' 25 (16 * v + i) = V 25 (16 * v + i)) ∧ (∀ i, i < 12 → V' 18 (12 * j + i) = V 18 (12 * j + i) ∧ N' 14 (12 * j + i) = N 14 (12 * j + i) ∧ N' 15 (12 * j + i) = N 15 (12 * j + i))
/-- turns grow, versions are overwritten by those not executed -/
def be_kM (N N' : Nat → Nat → Nat) (V V' : Nat → Nat → Int32) : Prop := (∀ f, f < 8 → N 10 f ≤ N' 10 f ∧ (N' 9 f ≠ 2 → N 9 f ≠ 2 ∨ N 10 f < N' 10 f)) ∧ (∀ f c, f < 8 → (N' 7 (8 * c + f) = N 7 (8 * c + f) ∧ V' 6 (8 * c + f) = V 6 (8 * c + f)) ∨ (N 9 f ≠ 2 ∧ N' 7 (8 * c + f) = N 10 f))
theorem be_rec_keep {c0 c1 : Nat} {s0 : Nat → Int32} {N N' : Nat → Nat → Nat} {V V' : Nat → Nat → Int32} {t k : Nat} {v : Int32} (ht : t < 8) (hm : be_kM N N' V V') (hr : N' 14 (12 * t + k) = N 14 (12 * t + k) ∧ N' 15 (12 * t + k) = N 15 (12 * t + k)) (h : be_rec c0 c1 s0 N V t k v) : be_rec c0 c1 s0 N' V' t k v :=
  be_Rec_mono ht h hr hm.1 hm.2
theorem be_Dn_keep {cnt c0 c1 : Nat} {am nd : Int32} {s0 : Nat → Int32} {N N' : Nat → Nat → Nat} {V V' : Nat → Nat → Int32} {t : Nat} (ht : t < 8) (hm : be_kM N N' V V') (hk : be_kD N N' V V' t) (h : be_Dn cnt c0 c1 am nd s0 N V t) : be_Dn cnt c0 c1 am nd s0 N' V' t := by
  obtain ⟨k1, k2, k3, k4, k5, k6, k7⟩ := hk
  obtain ⟨v1, r1, h⟩ := h
  refine ⟨v1, be_rec_keep ht hm (k7 0 (by omega)).2 r1, ?_⟩
  rcases h with ⟨a1, a2, a3, a4⟩ | ⟨a1, a2, a3, a4, v2, r2, b1, b2, b3, b4, b5, b6, b7, b8⟩
  · exact Or.inl ⟨a1, by rw [k1]; exact a2, by rw [k2]; exact a3, by rw [k3]; exact a4⟩
  · refine Or.inr ⟨a1, by rw [k1]; exact a2, by rw [k2]; exact a3, by rw [k3]; exact a4, v2, be_rec_keep ht hm (k7 1 (by omega)).2 r2, ?_⟩
    rw [(k6 c0).1, (k6 c0).2, (k6 c1).1, (k6 c1).2, k4, k5, (k7 0 (by omega)).1, (k7 1 (by omega)).1, (k7 2 (by omega)).1]
    exact ⟨b1, b2, b3, b4, b5, b6, b7, b8⟩
theorem be_Rn_keep {cnt c0 c1 a b : Nat} {am nd : Int32} {s0 : Nat → Int32} {N N' : Nat → Nat → Nat} {V V' : Nat → Nat → Int32} {w t p : Nat} (ht : t < 8) (ha : a < 4) (hb : b < 4) (hc0 : c0 < 16) (hc1 : c1 < 16) (hm : be_kM N N' V V') (hk : be_kR N N' V V' w t) (h : be_Rn cnt c0 c1 a b am nd s0 N V w t p) : be_Rn cnt c0 c1 a b am nd s0 N' V' w t p := by
  obtain ⟨k1, k2, k3, k4, k5, k6, k7⟩ := hk
  unfold be_Rn
  rw [k1, k2, k3, k4, k5 a ha, k5 b hb, k6 c0 hc0, k6 c1 hc1, (k7 0 (by omega)).1, (k7 1 (by omega)).1, (k7 2 (by omega)).1]
  rcases h with h | ⟨v1, r1, h⟩
  · exact Or.inl h
  · refine Or.inr ⟨v1, be_rec_keep ht hm (k7 0 (by omega)).2 r1, ?_⟩
    rcases h with h | h | h | ⟨a1, a2, a3, a4, a5, a6, a7, v2, r2, h⟩
    · exact Or.inl h
    · exact Or.inr (Or.inl h)
    · exact Or.inr (Or.inr (Or.inl h))
    · exact Or.inr (Or.inr (Or.inr ⟨a1, a2, a3, a4, a5, a6, a7, v2, be_rec_keep ht hm (k7 1 (by omega)).2 r2, h⟩))
/-- one turn keeps the invariant -/
theorem be_Inv_keep {cnt W c0 c1 a b : Nat} {am nd : Int32} {s0 : Nat → Int32} {N N' : Nat → Nat → Nat} {V V' : Nat → Nat → Int32} (hC : be_Cs cnt W c0 c1 a b) (h : be_Inv cnt W c0 c1 a b am nd s0 N V)
    (hB : (∀ f j, N' f j < 1048576) ∧ (∀ j, N' 10 j ≤ N' 0 6))
    (hS : N' 0 0 = N 0 0 ∧ N' 0 1 = N 0 1 ∧ N' 0 2 = N 0 2 ∧ V' 1 = V 1 ∧ N' 2 = N 2 ∧ N' 3 = N 3 ∧ N' 4 = N 4 ∧ V' 5 = V 5)
    (j1 : be_J1 cnt (N' 0 3) (N' 0 4) (N' 9)) (j2 : be_J2 cnt (N' 9) (N' 11)) (j3 : be_J3 cnt W (N' 9) (N' 10) (N' 19) (N' 20) (N' 21))
    (j4 : be_J4 cnt W (N' 0 4) (N' 9) (N' 10) (N' 7) (N' 8) (N' 12) (N' 13) (N' 14) (N' 15) (N' 19) (N' 20) (N' 21)) (j5 : be_J5 cnt c0 c1 (N' 8) (N' 12) (N' 13) (N' 14))
    (hm : be_kM N N' V V')
    (hD : ∀ t, t < cnt → N' 9 t = 2 → be_Dn cnt c0 c1 am nd s0 N' V' t ∨ (N 9 t = 2 ∧ be_kD N N' V V' t))
    (hR : ∀ w, w < W → N' 19 w = 1 → be_Rn cnt c0 c1 a b am nd s0 N' V' w (N' 20 w) (N' 22 w) ∨ (N 19 w = 1 ∧ N' 20 w = N 20 w ∧ N' 22 w = N 22 w ∧ be_kR N N' V V' w (N 20 w))) :
    be_Inv cnt W c0 c1 a b am nd s0 N' V' := by
  obtain ⟨_, ⟨c1', c2', c3', c4', c5'⟩, _, _, i3, _, _, iD, iR⟩ := h
  obtain ⟨s1, s2, s3, s4, s5, s6, s7, s8⟩ := hS
  obtain ⟨_, hc8, _, _, hcc0, hcc1, _, ha, hb, _⟩ := hC
  refine ⟨hB, ⟨by rw [s1]; exact c1', by rw [s2]; exact c2', by rw [s3]; exact c3', by rw [s4]; exact c4', fun t ht => ?_⟩, j1, j2, j3, j4, j5, fun t ht hz => ?_, fun w hw hz => ?_⟩
  · have := c5' t ht
    unfold be_PT at this ⊢
    rw [s5, s6, s7, s8]
    exact this
  · rcases hD t ht hz with q | q
    · exact q
    · exact be_Dn_keep (by omega) hm q.2 (iD t ht q.1)
  · rcases hR w hw hz with q | ⟨q1, q2, q3, q4⟩
    · exact q
    · rw [q2, q3]
      have := ((i3.2.1 w hw).2.1 (by omega))
      exact be_Rn_keep (by omega) ha hb hcc0 hcc1 hm q4 (iR w hw q1)
end
section
theorem be_B_up {N : Nat → Nat → Nat} {g i x : Nat} (h : ∀ f j, N f j < 1048576) (hx : x < 1048576) : ∀ f j, be_up N g i x f j < 1048576 := by
  intro f j
  unfold be_up be_fs
  cases q : Nat.beq f g
  · exact h f j
  · show be_u (N g) i x j < _
    rw [be_u_eq]
    split
    · exact hx
    · exact h g j
theorem be_B_fs {N : Nat → Nat → Nat} {g : Nat} {A : Nat → Nat} (h : ∀ f j, N f j < 1048576) (hx : ∀ j, A j < 1048576) : ∀ f j, be_fs N g A f j < 1048576 := by
  intro f j
  unfold be_fs
  cases q : Nat.beq f g
  · exact h f j
  · exact hx j
theorem be_kM_id (N : Nat → Nat → Nat) (V : Nat → Nat → Int32) : be_kM N N V V := ⟨fun f _ => ⟨Nat.le_refl _, Or.inl⟩, fun f c _ => Or.inl ⟨rfl, rfl⟩⟩
theorem be_kD_id (N : Nat → Nat → Nat) (V : Nat → Nat → Int32) (j : Nat) : be_kD N N V V j := ⟨rfl, rfl, rfl, rfl, rfl, fun c => ⟨rfl, rfl⟩, fun i _ => ⟨rfl, rfl, rfl⟩⟩
theorem be_kR_id (N : Nat → Nat → Nat) (V : Nat → Nat → Int32) (v j : Nat) : be_kR N N V V v j := ⟨rfl, rfl, rfl, rfl, fun i _ => rfl, fun i _ => rfl, fun i _ => ⟨rfl, rfl, rfl⟩⟩
/-- the next to be checked is not executed -/
theorem be_T1 {cnt W c0 c1 a b : Nat} {am nd : Int32} {s0 : Nat → Int32} {N : Nat → Nat → Nat} {V : Nat → Nat → Int32} (hC : be_Cs cnt W c0 c1 a b) (h : be_Inv cnt W c0 c1 a b am nd s0 N V) (h1 : N 0 4 < cnt) (h2 : N 9 (N 0 4) ≠ 2) :
    be_Inv cnt W c0 c1 a b am nd s0 (be_up N 0 4 (N 0 4 + 1)) V := by
  have h' := h
  obtain ⟨⟨hB, hT⟩, ⟨e0, e1, e2, es, hP⟩, j1, j2, j3, j4, j5, hD, hR⟩ := h
  have hc := hC.2.1
  exact be_Inv_keep hC h' ⟨be_B_up hB (by omega), hT⟩ ⟨rfl, rfl, rfl, rfl, rfl, rfl, rfl, rfl⟩ (be_J1_nk j1 h1) j2 j3 (be_J4_nk j4 h2) j5 (be_kM_id N V) (fun t ht hz => Or.inr ⟨hz, be_kD_id N V t⟩) (fun v hv hz => Or.inr ⟨hz, rfl, rfl, be_kR_id N V v _⟩)
/-- a worker takes a check -/
theorem be_T2 {cnt W c0 c1 a b w : Nat} {am nd : Int32} {s0 : Nat → Int32} {N : Nat → Nat → Nat} {V : Nat → Nat → Int32} (hC : be_Cs cnt W c0 c1 a b) (h : be_Inv cnt W c0 c1 a b am nd s0 N V) (hw : w < W) (hk : N 19 w = 0) (h1 : N 0 4 < cnt) :
    be_Inv cnt W c0 c1 a b am nd s0 (be_up (be_up (be_up (be_up N 0 4 (N 0 4 + 1)) 19 w 2) 20 w (N 0 4)) 21 w (N 10 (N 0 4))) V := by
  have h' := h
  obtain ⟨⟨hB, hT⟩, ⟨e0, e1, e2, es, hP⟩, j1, j2, j3, j4, j5, hD, hR⟩ := h
  have hc := hC.2.1
  refine be_Inv_keep hC h' ⟨be_B_up (be_B_up (be_B_up (be_B_up hB (by omega)) (by omega)) (by omega)) (hB 10 _), hT⟩ ⟨rfl, rfl, rfl, rfl, rfl, rfl, rfl, rfl⟩ (be_J1_nk j1 h1) j2 (be_J3_task j3 (show N 19 w ≠ 1 by omega) (by omega) (by omega) h1) (be_J4_take j4 hw (show N 19 w ≠ 2 by omega)) j5 (be_kM_id N V) (fun t ht hz => Or.inr ⟨hz, be_kD_id N V t⟩) (fun v hv hz => ?_)
  have hz' : be_u (N 19) w 2 v = 1 := hz
  have hvw : v ≠ w := fun e => by rw [e, be_us] at hz'; omega
  rw [be_un hvw] at hz'
  exact Or.inr ⟨hz', be_un hvw, rfl, be_kR_id N V v _⟩
/-- the next to be carried out is not ready -/
theorem be_T3 {cnt W c0 c1 a b : Nat} {am nd : Int32} {s0 : Nat → Int32} {N : Nat → Nat → Nat} {V : Nat → Nat → Int32} (hC : be_Cs cnt W c0 c1 a b) (h : be_Inv cnt W c0 c1 a b am nd s0 N V) (h1 : N 0 3 < cnt) (h2 : N 9 (N 0 3) ≠ 0) :
    be_Inv cnt W c0 c1 a b am nd s0 (be_up N 0 3 (N 0 3 + 1)) V := by
  have h' := h
  obtain ⟨⟨hB, hT⟩, ⟨e0, e1, e2, es, hP⟩, j1, j2, j3, j4, j5, hD, hR⟩ := h
  have hc := hC.2.1
  exact be_Inv_keep hC h' ⟨be_B_up hB (by omega), hT⟩ ⟨rfl, rfl, rfl, rfl, rfl, rfl, rfl, rfl⟩ (be_J1_nc j1 h1 h2) j2 j3 j4 j5 (be_kM_id N V) (fun t ht hz => Or.inr ⟨hz, be_kD_id N V t⟩) (fun v hv hz => Or.inr ⟨hz, rfl, rfl, be_kR_id N V v _⟩)
/-- a worker begins to carry out -/
theorem be_T4 {cnt W c0 c1 a b w : Nat} {am nd : Int32} {s0 : Nat → Int32} {N : Nat → Nat → Nat} {V : Nat → Nat → Int32} {g : Nat → Int32} (hC : be_Cs cnt W c0 c1 a b) (h : be_Inv cnt W c0 c1 a b am nd s0 N V) (hw : w < W) (hk : N 19 w = 0) (h1 : N 0 3 < cnt) (h2 : N 9 (N 0 3) = 0) (hg : ∀ j, (j < 4 * w ∨ 4 * w + 4 ≤ j) → g j = V 23 j) :
    be_Inv cnt W c0 c1 a b am nd s0 (be_up (be_up (be_up (be_up (be_up (be_up (be_up (be_up (be_up (be_up N 0 3 (N 0 3 + 1)) 9 (N 0 3) 1) 19 w 1) 20 w (N 0 3)) 21 w (N 10 (N 0 3))) 22 w 0) 24 w 0) 26 w 0) 12 (N 0 3) 0) 17 (N 0 3) 0) (be_vs V 23 g) := by
  have h' := h
  obtain ⟨⟨hB, hT⟩, ⟨e0, e1, e2, es, hP⟩, j1, j2, j3, j4, j5, hD, hR⟩ := h
  have hc := hC.2.1
  refine be_Inv_keep hC h' ⟨be_B_up (be_B_up (be_B_up (be_B_up (be_B_up (be_B_up (be_B_up (be_B_up (be_B_up (be_B_up hB (by omega)) (by omega)) (by omega)) (by omega)) (hB 10 _)) (by omega)) (by omega)) (by omega)) (by omega)) (by omega), hT⟩ ⟨rfl, rfl, rfl, rfl, rfl, rfl, rfl, rfl⟩ (be_J1_begin j1 h1) (be_J2_set j2 (show N 9 (N 0 3) ≠ 3 by omega) (by omega) (by omega)) (be_J3_begin j3 h1 h2 hw hk) ?_ (be_J5_begin j5) ?_ (fun t ht hz => ?_) (fun v hv hz => ?_)
  · refine be_J4_keep (w := w) j4 (by omega) (fun f => ?_) (fun t ht hz => ?_) (fun v hv => ⟨be_un hv, be_un hv, be_un hv⟩)
    · show be_u (N 9) (N 0 3) 1 f = 2 ↔ N 9 f = 2
      rw [be_u_eq]
      split
      · rename_i q
        rw [q]
        omega
      · exact Iff.rfl
    · have : t ≠ N 0 3 := fun e => by rw [e] at hz; omega
      exact ⟨be_un this, fun k hk => ⟨((j5 t ht).2.2 k hk).2, rfl, rfl, rfl⟩⟩
  · refine ⟨fun f _ => ⟨Nat.le_refl _, fun z => ?_⟩, fun f c _ => Or.inl ⟨rfl, rfl⟩⟩
    by_cases e : f = N 0 3
    · exact Or.inl (by rw [e]; omega)
    · have z' : be_u (N 9) (N 0 3) 1 f ≠ 2 := z
      rw [be_un e] at z'
      exact Or.inl z'
  · have hz' : be_u (N 9) (N 0 3) 1 t = 2 := hz
    have htn : t ≠ N 0 3 := fun e => by rw [e, be_us] at hz'; omega
    rw [be_un htn] at hz'
    exact Or.inr ⟨hz', rfl, rfl, be_un htn, rfl, be_un htn, fun c => ⟨rfl, rfl⟩, fun i _ => ⟨rfl, rfl, rfl⟩⟩
  · by_cases e : v = w
    · subst e
      refine Or.inl (Or.inl ?_)
      refine ⟨be_us, ?_, be_us, be_us, ?_⟩
      · show be_u (N 12) (N 0 3) 0 (be_u (N 20) v (N 0 3) v) = 0
        rw [be_us, be_us]
      · show be_u (N 17) (N 0 3) 0 (be_u (N 20) v (N 0 3) v) = 0
        rw [be_us, be_us]
    · have hz' : be_u (N 19) w 1 v = 1 := hz
      rw [be_un e] at hz'
      have hs := ((j3.2.1 v hv).2.2 hz').1
      have hne : N 20 v ≠ N 0 3 := fun q => by rw [q] at hs; omega
      exact Or.inr ⟨hz', be_un e, be_un e, be_un e, be_un e, be_un hne, be_un hne, fun i hi => hg _ (by omega), fun i _ => rfl, fun i _ => ⟨rfl, rfl, rfl⟩⟩
/-- a check that changes nothing -/
theorem be_T5 {cnt W c0 c1 a b w : Nat} {am nd : Int32} {s0 : Nat → Int32} {N : Nat → Nat → Nat} {V : Nat → Nat → Int32} (hC : be_Cs cnt W c0 c1 a b) (h : be_Inv cnt W c0 c1 a b am nd s0 N V) (hk : N 19 w = 2)
    (hn : ¬ (N 9 (N 20 w) = 2 ∧ N 10 (N 20 w) = N 21 w ∧ ¬ be_rh N (N 20 w))) : be_Inv cnt W c0 c1 a b am nd s0 (be_up N 19 w 0) V := by
  have h' := h
  obtain ⟨⟨hB, hT⟩, ⟨e0, e1, e2, es, hP⟩, j1, j2, j3, j4, j5, hD, hR⟩ := h
  refine be_Inv_keep hC h' ⟨be_B_up hB (by omega), hT⟩ ⟨rfl, rfl, rfl, rfl, rfl, rfl, rfl, rfl⟩ j1 j2 (be_J3_idle j3 (show N 19 w ≠ 1 by omega)) (be_J4_idle j4 hn) j5 (be_kM_id N V) (fun t ht hz => Or.inr ⟨hz, be_kD_id N V t⟩) (fun v hv hz => ?_)
  have hz' : be_u (N 19) w 0 v = 1 := hz
  have hvw : v ≠ w := fun e => by rw [e, be_us] at hz'; omega
  rw [be_un hvw] at hz'
  exact Or.inr ⟨hz', rfl, rfl, be_kR_id N V v _⟩
/-- a check that fails -/
theorem be_T6 {cnt W c0 c1 a b w : Nat} {am nd : Int32} {s0 : Nat → Int32} {N : Nat → Nat → Nat} {V : Nat → Nat → Int32} (hC : be_Cs cnt W c0 c1 a b) (h : be_Inv cnt W c0 c1 a b am nd s0 N V) (hst : ∀ j, N 10 j + 1 ≤ N 0 6) (hw : w < W) (hk : N 19 w = 2) (h9 : N 9 (N 20 w) = 2) :
    be_Inv cnt W c0 c1 a b am nd s0 (be_up (be_up (be_up (be_up (be_up N 19 w 0) 9 (N 20 w) 0) 10 (N 20 w) (N 10 (N 20 w) + 1)) 0 3 (min (N 0 3) (N 20 w))) 0 4 (min (N 0 4) (N 20 w + 1))) V := by
  have h' := h
  obtain ⟨⟨hB, hT⟩, ⟨e0, e1, e2, es, hP⟩, j1, j2, j3, j4, j5, hD, hR⟩ := h
  have hc := hC.2.1
  have htc : N 20 w < cnt := (j3.2.1 w hw).2.1 (by omega)
  have b10 := hst (N 20 w)
  have b06 := hB 0 6
  have b3 := hB 0 3
  have b4 := hB 0 4
  refine be_Inv_keep hC h' ⟨be_B_up (be_B_up (be_B_up (be_B_up (be_B_up hB (by omega)) (by omega)) (by omega)) (by omega)) (by omega), fun j => ?_⟩ ⟨rfl, rfl, rfl, rfl, rfl, rfl, rfl, rfl⟩ (be_J1_abort j1 htc) (be_J2_set j2 (show N 9 (N 20 w) ≠ 3 by omega) (by omega) (by omega)) (be_J3_st (be_J3_idle j3 (show N 19 w ≠ 1 by omega)) (show N 9 (N 20 w) ≠ 1 by omega) (by omega)) (be_J4_abort j4 rfl (fun j hj k hk => ((j5 j hj).2.2 k hk).2)) j5 ?_ (fun t ht hz => ?_) (fun v hv hz => ?_)
  · show be_u (N 10) (N 20 w) (N 10 (N 20 w) + 1) j ≤ N 0 6
    have := hst j
    rw [be_u_eq]
    split <;> omega
  · refine ⟨fun f _ => ?_, fun f c _ => Or.inl ⟨rfl, rfl⟩⟩
    show N 10 f ≤ be_u (N 10) (N 20 w) (N 10 (N 20 w) + 1) f ∧ (be_u (N 9) (N 20 w) 0 f ≠ 2 → N 9 f ≠ 2 ∨ N 10 f < be_u (N 10) (N 20 w) (N 10 (N 20 w) + 1) f)
    by_cases e : f = N 20 w
    · rw [e, be_us, be_us]
      exact ⟨by omega, fun _ => Or.inr (by omega)⟩
    · rw [be_un e, be_un e]
      exact ⟨by omega, Or.inl⟩
  · have hz' : be_u (N 9) (N 20 w) 0 t = 2 := hz
    have htn : t ≠ N 20 w := fun e => by rw [e, be_us] at hz'; omega
    rw [be_un htn] at hz'
    exact Or.inr ⟨hz', rfl, rfl, rfl, be_un htn, rfl, fun c => ⟨rfl, rfl⟩, fun i _ => ⟨rfl, rfl, rfl⟩⟩
  · have hz' : be_u (N 19) w 0 v = 1 := hz
    have hvw : v ≠ w := fun e => by rw [e, be_us] at hz'; omega
    rw [be_un hvw] at hz'
    exact Or.inr ⟨hz', rfl, rfl, be_kR_id N V v _⟩
/-- a worker meets a mark -/
theorem be_T7 {cnt W c0 c1 a b w f p : Nat} {am nd : Int32} {s0 : Nat → Int32} {N : Nat → Nat → Nat} {V : Nat → Nat → Int32} (hC : be_Cs cnt W c0 c1 a b) (h : be_Inv cnt W c0 c1 a b am nd s0 N V) (hw : w < W) (hk : N 19 w = 1) (hp : p < 100) (hf : f < N 20 w) (hf2 : N 9 f ≠ 2) (hm : N 11 f ||| 2 ^ (N 20 w) < 1048576) :
    be_Inv cnt W c0 c1 a b am nd s0 (be_up (be_up (be_up (be_up N 22 w p) 11 f (N 11 f ||| 2 ^ (N 20 w))) 9 (N 20 w) 3) 19 w 0) V := by
  have h' := h
  obtain ⟨⟨hB, hT⟩, ⟨e0, e1, e2, es, hP⟩, j1, j2, j3, j4, j5, hD, hR⟩ := h
  have hc := hC.2.1
  have htc : N 20 w < cnt := (j3.2.1 w hw).2.1 (by omega)
  have hs1 : N 9 (N 20 w) = 1 := ((j3.2.1 w hw).2.2 hk).1
  refine be_Inv_keep hC h' ⟨be_B_up (be_B_up (be_B_up (be_B_up hB (by omega)) hm) (by omega)) (by omega), hT⟩ ⟨rfl, rfl, rfl, rfl, rfl, rfl, rfl, rfl⟩ (be_J1_wait j1) (be_J2_wait j2 hs1 htc hf hf2) (be_J3_stop j3 hw hk (by omega)) ?_ j5 ?_ (fun t ht hz => ?_) (fun v hv hz => ?_)
  · refine be_J4_keep (w := w) j4 (by omega) (fun f => ?_) (fun t ht hz => ⟨rfl, fun k hk => ⟨((j5 t ht).2.2 k hk).2, rfl, rfl, rfl⟩⟩) (fun v hv => ⟨be_un hv, rfl, rfl⟩)
    show be_u (N 9) (N 20 w) 3 f = 2 ↔ N 9 f = 2
    rw [be_u_eq]
    split
    · rename_i q
      rw [q]
      omega
    · exact Iff.rfl
  · refine ⟨fun f _ => ⟨Nat.le_refl _, fun z => ?_⟩, fun f c _ => Or.inl ⟨rfl, rfl⟩⟩
    by_cases e : f = N 20 w
    · exact Or.inl (by rw [e]; omega)
    · have z' : be_u (N 9) (N 20 w) 3 f ≠ 2 := z
      rw [be_un e] at z'
      exact Or.inl z'
  · have hz' : be_u (N 9) (N 20 w) 3 t = 2 := hz
    have htn : t ≠ N 20 w := fun e => by rw [e, be_us] at hz'; omega
    rw [be_un htn] at hz'
    exact Or.inr ⟨hz', be_kD_id N V t⟩
  · have hz' : be_u (N 19) w 0 v = 1 := hz
    have hvw : v ≠ w := fun e => by rw [e, be_us] at hz'; omega
    rw [be_un hvw] at hz'
    exact Or.inr ⟨hz', rfl, be_un hvw, be_kR_id N V v _⟩
end
section
/-- a worker works at what it carries, for itself or reading -/
theorem be_Tloc {cnt W c0 c1 a b w t : Nat} {am nd : Int32} {s0 : Nat → Int32} {N N' : Nat → Nat → Nat} {V V' : Nat → Nat → Int32} (hC : be_Cs cnt W c0 c1 a b) (h : be_Inv cnt W c0 c1 a b am nd s0 N V) (hw : w < W) (hk : N 19 w = 1) (et : N 20 w = t)
    (hE : N' 0 = N 0 ∧ N' 2 = N 2 ∧ N' 3 = N 3 ∧ N' 4 = N 4 ∧ N' 7 = N 7 ∧ N' 8 = N 8 ∧ N' 9 = N 9 ∧ N' 10 = N 10 ∧ N' 11 = N 11 ∧ N' 16 = N 16 ∧ N' 19 = N 19 ∧ N' 20 = N 20 ∧ N' 21 = N 21 ∧ V' 1 = V 1 ∧ V' 5 = V 5 ∧ V' 6 = V 6)
    (hv : ∀ v, v ≠ w → N' 22 v = N 22 v ∧ N' 24 v = N 24 v ∧ N' 26 v = N 26 v ∧ (∀ i, i < 4 → V' 23 (4 * v + i) = V 23 (4 * v + i)) ∧ (∀ i, i < 16 → V' 25 (16 * v + i) = V 25 (16 * v + i)))
    (hj : ∀ j, j ≠ t → N' 12 j = N 12 j ∧ N' 17 j = N 17 j ∧ ∀ i, i < 12 → V' 18 (12 * j + i) = V 18 (12 * j + i) ∧ N' 13 (12 * j + i) = N 13 (12 * j + i) ∧ N' 14 (12 * j + i) = N 14 (12 * j + i) ∧ N' 15 (12 * j + i) = N 15 (12 * j + i))
    (hB' : ∀ f j, N' f j < 1048576) (j5' : be_J5 cnt c0 c1 (N' 8) (N' 12) (N' 13) (N' 14))
    (hRn : be_Rn cnt c0 c1 a b am nd s0 N' V' w t (N' 22 w)) : be_Inv cnt W c0 c1 a b am nd s0 N' V' := by
  have h' := h
  obtain ⟨⟨hB, hT⟩, ⟨e0, e1, e2, es, hP⟩, j1, j2, j3, j4, j5, hD, hR⟩ := h
  obtain ⟨q0, q2, q3, q4, q7, q8, q9, q10, q11, q16, q19, q20, q21, r1, r5, r6⟩ := hE
  have hc := hC.2.1
  have hs1 : N 9 t = 1 := by
    have := ((j3.2.1 w hw).2.2 hk).1
    rw [et] at this
    exact this
  have h2t : ∀ j, N 9 j = 2 → j ≠ t := fun j hz e => by rw [e] at hz; omega
  have hm : be_kM N N' V V' := by
    refine ⟨fun f _ => ?_, fun f c _ => Or.inl ?_⟩
    · rw [q10, q9]
      exact ⟨Nat.le_refl _, Or.inl⟩
    · rw [q7, r6]
      exact ⟨rfl, rfl⟩
  refine be_Inv_keep hC h' ⟨hB', fun j => by rw [q10, q0]; exact hT j⟩ ⟨by rw [q0], by rw [q0], by rw [q0], r1, q2, q3, q4, r5⟩ (by rw [q0, q9]; exact j1) (by rw [q9, q11]; exact j2) (by rw [q9, q10, q19, q20, q21]; exact j3) ?_ j5' hm (fun j hjc hz => ?_) (fun v hvc hz => ?_)
  · rw [q0, q9, q10, q7, q8, q19, q20, q21]
    refine be_J4_keep (w := w) j4 (by omega) (fun f => Iff.rfl) (fun j hjc hz => ?_) (fun v _ => ⟨rfl, rfl, rfl⟩)
    have hjj := hj j (h2t j hz)
    refine ⟨hjj.1, fun k hk => ?_⟩
    have h12 := (j5 j hjc).1
    exact ⟨((j5 j hjc).2.2 k hk).2, (hjj.2.2 k (by omega)).2⟩
  · rw [q9] at hz
    have hjj := hj j (h2t j hz)
    refine Or.inr ⟨hz, by rw [q16], by rw [q8], hjj.1, by rw [q10], hjj.2.1, fun c => by rw [q7, r6]; exact ⟨rfl, rfl⟩, fun i hi => ?_⟩
    have := hjj.2.2 i hi
    exact ⟨this.1, this.2.2⟩
  · by_cases e : v = w
    · subst e
      left
      rw [q20, et]
      exact hRn
    · right
      rw [q19] at hz
      have hne : N 20 v ≠ t := fun q => e (j3.2.2 v w hvc hw hz hk (by rw [q, et]))
      have hvv := hv v e
      have hjj := hj _ hne
      refine ⟨hz, by rw [q20], hvv.1, hvv.2.1, hvv.2.2.1, hjj.1, hjj.2.1, hvv.2.2.2.1, hvv.2.2.2.2, fun i hi => ?_⟩
      have := hjj.2.2 i hi
      exact ⟨this.1, this.2.2⟩
theorem be_at_eq {S t x f : Nat} {vt : Nat → Nat} (hf : f < 8) (ht : t < 8) (i : Nat) : ∀ c, be_at S t x vt c (8 * i + f) = if f = t ∧ i < c ∧ S / 2 ^ i % 2 = 1 then x else vt (8 * i + f) := by
  intro c
  induction c with
  | zero => rw [if_neg (fun z => absurd z.2.1 (by omega))]; rfl
  | succ c ih =>
    unfold be_at
    by_cases hb : S / 2 ^ c % 2 = 1
    · rw [if_pos hb, be_u_eq]
      by_cases e : 8 * i + f = 8 * c + t
      · have e1 : f = t := by omega
        have e2 : i = c := by omega
        subst e1 e2
        rw [if_pos rfl, if_pos ⟨rfl, by omega, hb⟩]
      · rw [if_neg e, ih]
        by_cases q : f = t ∧ i < c ∧ S / 2 ^ i % 2 = 1
        · rw [if_pos q, if_pos ⟨q.1, by omega, q.2.2⟩]
        · rw [if_neg q, if_neg (fun z => q ⟨z.1, by omega, z.2.2⟩)]
    · rw [if_neg hb, ih]
      by_cases q : f = t ∧ i < c ∧ S / 2 ^ i % 2 = 1
      · rw [if_pos q, if_pos ⟨q.1, by omega, q.2.2⟩]
      · rw [if_neg q, if_neg (fun z => q ⟨z.1, by
          have : i ≠ c := fun e => hb (by rw [← e]; exact z.2.2)
          omega, z.2.2⟩)]
theorem be_av_eq {S t w f : Nat} {sv vv : Nat → Int32} (hf : f < 8) (ht : t < 8) (i : Nat) : ∀ c, be_av S t w sv vv c (8 * i + f) = if f = t ∧ i < c ∧ S / 2 ^ i % 2 = 1 then sv (16 * w + i) else vv (8 * i + f) := by
  intro c
  induction c with
  | zero => rw [if_neg (fun z => absurd z.2.1 (by omega))]; rfl
  | succ c ih =>
    unfold be_av
    by_cases hb : S / 2 ^ c % 2 = 1
    · rw [if_pos hb]
      by_cases e : 8 * i + f = 8 * c + t
      · have e1 : f = t := by omega
        have e2 : i = c := by omega
        subst e1 e2
        rw [pk_us, if_pos ⟨rfl, by omega, hb⟩]
      · rw [pk_un e, ih]
        by_cases q : f = t ∧ i < c ∧ S / 2 ^ i % 2 = 1
        · rw [if_pos q, if_pos ⟨q.1, by omega, q.2.2⟩]
        · rw [if_neg q, if_neg (fun z => q ⟨z.1, by omega, z.2.2⟩)]
    · rw [if_neg hb, ih]
      by_cases q : f = t ∧ i < c ∧ S / 2 ^ i % 2 = 1
      · rw [if_pos q, if_pos ⟨q.1, by omega, q.2.2⟩]
      · rw [if_neg q, if_neg (fun z => q ⟨z.1, by
          have : i ≠ c := fun e => hb (by rw [← e]; exact z.2.2)
          omega, z.2.2⟩)]
theorem be_M_lt {c0 c1 : Nat} (h0 : c0 < 16) (h1 : c1 < 16) : 2 ^ c0 ||| 2 ^ c1 < 65536 :=
  Nat.or_lt_two_pow (n := 16) (Nat.pow_lt_pow_right (by omega) h0) (Nat.pow_lt_pow_right (by omega) h1)
theorem be_M_bit (c0 c1 j : Nat) : (2 ^ c0 ||| 2 ^ c1) / 2 ^ j % 2 = 1 ↔ (j = c0 ∨ j = c1) := by
  rw [be_or_bit, be_bit1]
theorem be_M_ne (c0 c1 : Nat) : 2 ^ c0 ||| 2 ^ c1 ≠ 0 := by
  intro h
  have := (be_M_bit c0 c1 c0).mpr (Or.inl rfl)
  rw [h] at this
  exact be_bit0 c0 this
/-- a transaction ends -/
theorem be_T9 {cnt W c0 c1 a b w t S : Nat} {am nd : Int32} {s0 : Nat → Int32} {N N' : Nat → Nat → Nat} {V V' : Nat → Nat → Int32} (hC : be_Cs cnt W c0 c1 a b) (h : be_Inv cnt W c0 c1 a b am nd s0 N V) (hst : ∀ j, N 10 j + 1 ≤ N 0 6) (hw : w < W) (hk : N 19 w = 1) (et : N 20 w = t)
    (hp : N 2 t ≤ N 22 w) (hS : S = if N 26 w = 0 then N 24 w else 0) (hV : V' = be_vs V 6 (be_av S t w (V 25) (V 6) 16))
    (hE0 : N' 0 0 = N 0 0 ∧ N' 0 1 = N 0 1 ∧ N' 0 2 = N 0 2 ∧ N' 0 6 = N 0 6 ∧ N' 0 3 = be_wnc (N 11 t) (N 0 3) 8)
    (hE : N' 2 = N 2 ∧ N' 3 = N 3 ∧ N' 4 = N 4 ∧ N' 7 = be_at S t (N 10 t) (N 7) 16 ∧ N' 8 = be_u (N 8) t S ∧ N' 9 = be_wst (N 11 t) (be_u (N 9) t 2) 8 ∧ N' 10 = be_wtn (N 11 t) (N 10) 8 ∧ N' 11 = be_u (N 11) t 0 ∧ N' 12 = N 12 ∧ N' 13 = N 13 ∧ N' 14 = N 14 ∧ N' 15 = N 15 ∧ N' 16 = be_u (N 16) t (N 26 w) ∧ N' 17 = N 17 ∧ N' 22 = N 22 ∧ N' 24 = N 24 ∧ N' 26 = N 26)
    (hB' : ∀ f j, N' f j < 1048576)
    (hcase : (N 0 4 ≤ t ∧ N' 0 4 = N 0 4 ∧ N' 19 = be_u (N 19) w 0 ∧ N' 20 = N 20 ∧ N' 21 = N 21) ∨ (t < N 0 4 ∧ N' 0 4 = t ∧ N' 19 = be_u (N 19) w 0 ∧ N' 20 = N 20 ∧ N' 21 = N 21) ∨ (t < N 0 4 ∧ N' 0 4 = N 0 4 ∧ N' 19 = be_u (N 19) w 2 ∧ N' 20 = be_u (N 20) w t ∧ N' 21 = be_u (N 21) w (N' 10 t) ∧ ¬ be_new S (N 8 t))) :
    be_Inv cnt W c0 c1 a b am nd s0 N' V' := by
  have h' := h
  obtain ⟨⟨hB, hT⟩, ⟨e0, e1, e2, es, hP⟩, j1, j2, j3, j4, j5, hD, hR⟩ := h
  obtain ⟨q00, q01, q02, q06, q03⟩ := hE0
  obtain ⟨q2, q3, q4, q7, q8, q9, q10, q11, q12, q13, q14, q15, q16, q17, q22, q24, q26⟩ := hE
  have hCc := hC
  obtain ⟨_, hc8, _, _, hcc0, hcc1, hcne, ha, hb, hab⟩ := hC
  have hs1 : N 9 t = 1 := by
    have := ((j3.2.1 w hw).2.2 hk).1
    rw [et] at this
    exact this
  have htc : t < cnt := by
    have := (j3.2.1 w hw).2.1 (by omega)
    rw [et] at this
    exact this
  have hMlt := be_M_lt hcc0 hcc1
  have hMne := be_M_ne c0 c1
  have hnob : ∀ f j, N 11 f / 2 ^ j % 2 = 1 → f < j ∧ j < cnt ∧ N 9 j = 3 ∧ N 9 f ≠ 2 := j2.2.1
  have st_t : N' 9 t = 2 := by
    rw [q9, be_wst_eq, if_neg (fun z => by have := hnob t t z.2; omega), be_us]
  have tn_t : N' 10 t = N 10 t := by
    rw [q10, be_wtn_eq, if_neg (fun z => by have := hnob t t z.2; omega)]
  have st_o : ∀ f, f ≠ t → (N' 9 f = 2 ↔ N 9 f = 2) := by
    intro f hf
    rw [q9, be_wst_eq]
    split
    · rename_i z
      have := hnob t f z.2
      omega
    · rw [be_un hf]
  have tn_o : ∀ f, N 9 f = 2 → N' 10 f = N 10 f := by
    intro f hf
    rw [q10, be_wtn_eq, if_neg (fun z => by have := hnob t f z.2; omega)]
  have hSM : S = 0 ∨ S = 2 ^ c0 ||| 2 ^ c1 := by
    have hr := hR w hw hk
    rw [et] at hr
    have hl := (hP t htc).1
    rcases hr with q | ⟨v1, r1, q | q | q | q⟩
    · rw [hl] at hp
      split at hp <;> omega
    · rw [hl] at hp
      split at hp <;> omega
    · left
      rw [hS, if_neg (by omega)]
    · rw [hl] at hp
      split at hp <;> omega
    · right
      obtain ⟨_, q26', _, _, _, _, _, v2, _, _, _, _, _, q9', _⟩ := q
      rw [hS, if_pos q26']
      have : 9 ≤ N 22 w := by
        rw [hl] at hp
        split at hp <;> omega
      exact (q9' this).1
  have hm : be_kM N N' V V' := by
    refine ⟨fun f hf => ⟨?_, fun z => ?_⟩, fun f c hf => ?_⟩
    · rw [q10, be_wtn_eq]
      split <;> omega
    · by_cases e : f = t
      · rw [e] at z
        exact absurd st_t z
      · exact Or.inl (fun y => z ((st_o f e).mpr y))
    · rw [q7, hV]
      show (be_at S t (N 10 t) (N 7) 16 (8 * c + f) = N 7 (8 * c + f) ∧ be_av S t w (V 25) (V 6) 16 (8 * c + f) = V 6 (8 * c + f)) ∨ (N 9 f ≠ 2 ∧ be_at S t (N 10 t) (N 7) 16 (8 * c + f) = N 10 f)
      rw [be_at_eq hf (by omega), be_av_eq hf (by omega)]
      by_cases q : f = t ∧ c < 16 ∧ S / 2 ^ c % 2 = 1
      · right
        rw [if_pos q]
        exact ⟨by rw [q.1]; omega, by rw [q.1]⟩
      · left
        rw [if_neg q, if_neg q]
        exact ⟨rfl, rfl⟩
  have tk_w : N' 19 w ≠ 1 := by
    rcases hcase with q | q | q
    · rw [q.2.2.1, be_us]; omega
    · rw [q.2.2.1, be_us]; omega
    · rw [q.2.2.1, be_us]; omega
  have tk_o : ∀ v, v ≠ w → N' 19 v = N 19 v ∧ N' 20 v = N 20 v ∧ N' 21 v = N 21 v := by
    intro v hv
    rcases hcase with ⟨_, _, x, y, z⟩ | ⟨_, _, x, y, z⟩ | ⟨_, _, x, y, z, _⟩
    · rw [x, y, z, be_un hv]; exact ⟨rfl, rfl, rfl⟩
    · rw [x, y, z, be_un hv]; exact ⟨rfl, rfl, rfl⟩
    · rw [x, y, z, be_un hv, be_un hv, be_un hv]; exact ⟨rfl, rfl, rfl⟩
  have hJ3 : be_J3 cnt W (N' 9) (N' 10) (N' 19) (N' 20) (N' 21) := by
    have g1 := be_J3_stop (x := 2) j3 hw hk (by omega)
    rw [et] at g1
    have g2 := be_J3_wake (m := N 11 t) (d := 8) g1 (fun j hj => by
      have := hnob t j hj
      rw [be_u_eq]
      split <;> omega)
    rw [← q9, ← q10] at g2
    rcases hcase with ⟨_, _, x, y, z⟩ | ⟨_, _, x, y, z⟩ | ⟨_, _, x, y, z, _⟩
    · rw [x, y, z]; exact g2
    · rw [x, y, z]; exact g2
    · rw [x, y, z]
      have g3 := be_J3_task (w := w) (x := 2) (t := t) (y := N' 10 t) g2 (by rw [be_us]; omega) (by omega) (by omega) htc
      rw [be_uu] at g3
      exact g3
  have nk4 : N' 0 4 ≤ cnt := by
    have := j1.2.1
    rcases hcase with q | q | q <;> omega
  refine be_Inv_keep hCc h' ⟨hB', fun j => ?_⟩ ⟨q00, q01, q02, by rw [hV]; rfl, q2, q3, q4, by rw [hV]; rfl⟩ ?_ ?_ hJ3 ?_ ?_ hm (fun j hj hz => ?_) (fun v hv hz => ?_)
  · rw [q10, q06, be_wtn_eq]
    have := hst j
    split <;> omega
  · rw [q03, q9]
    exact be_J1_fin hc8 j1 nk4
  · rw [q9, q11]
    exact be_J2_fin hc8 j2 hs1
  · rw [q12, q13, q14, q15]
    refine be_J4_fin (S := S) (t := t) hc8 j4 hw hk hs1 (fun j hj k hk => ((j5 j hj).2.2 k hk).2) st_o tn_o (fun f c hf hft => ?_) (fun f hf => ?_) tk_o ?_
    · rw [q7, be_at_eq hf (by omega), if_neg (fun z => hft z.1)]
    · rw [q8, be_un hf]
    · rcases hcase with ⟨x, y, _⟩ | ⟨x, y, _⟩ | ⟨x, y, z, u, v, hn⟩
      · exact Or.inl ⟨x, y⟩
      · exact Or.inr (Or.inl ⟨x, y⟩)
      · refine Or.inr (Or.inr ⟨x, y, by rw [z, be_us], by rw [u, be_us], by rw [v, be_us], ?_⟩)
        rw [q8, be_us]
        exact be_new_sub (by omega) hMne hSM (j5 t htc).2.1 hn
  · rw [q8, q12, q13, q14]
    exact be_J5_fin j5 hSM
  · by_cases e : j = t
    · subst e
      left
      have hr := hR w hw hk
      rw [et] at hr
      have hl := (hP j htc).1
      have m0 : (2 ^ c0 ||| 2 ^ c1) / 2 ^ c0 % 2 = 1 := (be_M_bit c0 c1 c0).mpr (Or.inl rfl)
      have m1 : (2 ^ c0 ||| 2 ^ c1) / 2 ^ c1 % 2 = 1 := (be_M_bit c0 c1 c1).mpr (Or.inr rfl)
      rcases hr with q | ⟨v1, r1, q | q | q | q⟩
      · rw [hl] at hp
        split at hp <;> omega
      · rw [hl] at hp
        split at hp <;> omega
      · have hS0 : S = 0 := by rw [hS, if_neg (by omega)]
        refine ⟨v1, be_rec_keep (by omega) hm ⟨by rw [q14], by rw [q15]⟩ r1, Or.inl ⟨q.2.2.2, ?_, ?_, ?_⟩⟩
        · rw [q16, be_us]; exact q.2.2.1
        · rw [q8, be_us]; exact hS0
        · rw [q12]; exact q.2.1
      · rw [hl] at hp
        split at hp <;> omega
      · obtain ⟨x1, x2, x3, x4, x5, x6, x7, v2, r2, y1, y2, y3, y4, y5, y6, y7, y8, y9, y10⟩ := q
        have p9 : 9 ≤ N 22 w := by
          rw [hl] at hp
          split at hp <;> omega
        have hSe : S = 2 ^ c0 ||| 2 ^ c1 := by rw [hS, if_pos x2]; exact (y5 p9).1
        have p10 : 10 ≤ N 22 w := by
          rw [hl] at hp
          split at hp <;> omega
        refine ⟨v1, be_rec_keep (by omega) hm ⟨by rw [q14], by rw [q15]⟩ r1, Or.inr ⟨x1, ?_, ?_, ?_, v2, be_rec_keep (by omega) hm ⟨by rw [q14], by rw [q15]⟩ r2, ?_, ?_, ?_, ?_, ?_, ?_, ?_, ?_⟩⟩
        · rw [q16, be_us]; exact x2
        · rw [q8, be_us]; exact hSe
        · rw [q12]; exact x5
        · rw [hV]
          show be_av S j w (V 25) (V 6) 16 (8 * c0 + j) = v1 - am
          rw [be_av_eq (by omega) (by omega), if_pos ⟨rfl, hcc0, by rw [hSe]; exact m0⟩]
          exact x6
        · rw [hV]
          show be_av S j w (V 25) (V 6) 16 (8 * c1 + j) = v2 + am
          rw [be_av_eq (by omega) (by omega), if_pos ⟨rfl, hcc1, by rw [hSe]; exact m1⟩]
          exact (y5 p9).2
        · rw [q7, be_at_eq (by omega) (by omega), if_pos ⟨rfl, hcc0, by rw [hSe]; exact m0⟩, tn_t]
        · rw [q7, be_at_eq (by omega) (by omega), if_pos ⟨rfl, hcc1, by rw [hSe]; exact m1⟩, tn_t]
        · rw [q17]
          by_cases el : j + 1 = cnt
          · rw [if_pos el] at hl ⊢
            exact (y10 (by omega)).1
          · rw [if_neg el] at hl ⊢
            have : ¬ 11 ≤ N 22 w := fun z => el (y9 z).2
            exact y8 p10 (by omega)
        · rw [hV]; exact x7
        · rw [hV]; exact y7 p10
        · intro el
          rw [if_pos el] at hl
          rw [hV]; exact (y10 (by omega)).2
    · right
      have hz2 := (st_o j e).mp hz
      refine ⟨hz2, ?_, ?_, ?_, ?_, ?_, fun c => ?_, fun i hi => ?_⟩
      · rw [q16, be_un e]
      · rw [q8, be_un e]
      · rw [q12]
      · exact tn_o j hz2
      · rw [q17]
      · rw [q7, hV]
        show be_at S t (N 10 t) (N 7) 16 (8 * c + j) = N 7 (8 * c + j) ∧ be_av S t w (V 25) (V 6) 16 (8 * c + j) = V 6 (8 * c + j)
        rw [be_at_eq (by omega) (by omega), be_av_eq (by omega) (by omega), if_neg (fun z => e z.1), if_neg (fun z => e z.1)]
        exact ⟨rfl, rfl⟩
      · rw [hV, q14, q15]
        exact ⟨rfl, rfl, rfl⟩
  · have hvw : v ≠ w := fun e => tk_w (by rw [← e]; exact hz)
    obtain ⟨t1, t2, t3⟩ := tk_o v hvw
    right
    rw [t1] at hz
    refine ⟨hz, t2, by rw [q22], by rw [q24], by rw [q26], by rw [q12], by rw [q17], fun i _ => by rw [hV]; rfl, fun i _ => by rw [hV]; rfl, fun i _ => ?_⟩
    rw [hV, q14, q15]
    exact ⟨rfl, rfl, rfl⟩
end
section
/-- a worker acts on t: nothing below t changes, nor another worker -/
def be_Act (w t : Nat) (N N' : Nat → Nat → Nat) : Prop :=
  (∀ f, f < t → N' 9 f = N 9 f ∧ N' 10 f = N 10 f ∧ N' 8 f = N 8 f ∧ (∀ c, N' 7 (8 * c + f) = N 7 (8 * c + f)) ∧ N' 12 f = N 12 f ∧ ∀ i, i < 12 → N' 13 (12 * f + i) = N 13 (12 * f + i) ∧ N' 14 (12 * f + i) = N 14 (12 * f + i) ∧ N' 15 (12 * f + i) = N 15 (12 * f + i)) ∧
  (∀ v, v ≠ w → N' 19 v = N 19 v ∧ N' 20 v = N 20 v ∧ N' 21 v = N 21 v ∧ N' 22 v = N 22 v) ∧
  (∀ k, k < t → min (N 0 3) (k + 1) ≤ min (N' 0 3) (k + 1) ∧ min (N 0 4) (k + 1) ≤ min (N' 0 4) (k + 1)) ∧ N' 0 6 = N 0 6 ∧ N' 0 4 ≤ N 0 4
/-- the ways of acting -/
def be_Way (w t : Nat) (N N' : Nat → Nat → Nat) : Prop :=
  (N 19 w = 0 ∧ N 0 3 = t ∧ N 0 3 < N 0 0 ∧ (N 0 3 ≤ N 0 4 ∨ N 0 0 ≤ N 0 4) ∧ N' 0 3 = N 0 3 + 1 ∧ N' 0 4 = N 0 4 ∧ N 9 t = 0 ∧ N' 9 t = 1 ∧ N' 12 t = 0 ∧ N' 19 w = 1 ∧ N' 20 w = t ∧ N' 22 w = 0) ∨
  (N 19 w = 2 ∧ N 20 w = t ∧ N 9 t = 2 ∧ N 10 t = N 21 w ∧ ¬ be_rh N t ∧ N' 19 w = 0 ∧ N' 9 t = 0) ∨
  (N 19 w = 1 ∧ N 20 w = t ∧ N' 19 w = 1 ∧ N' 20 w = t ∧ N 22 w < N' 22 w ∧ N' 22 w ≤ 12 ∧ N' 9 t = 1 ∧ (be_rh N t → be_rh N' t)) ∨
  (N 19 w = 1 ∧ N 20 w = t ∧ N' 19 w = 0 ∧ N' 9 t = 3 ∧ ∃ f, f < t ∧ N 9 f ≠ 2) ∨
  (N 19 w = 1 ∧ N 20 w = t ∧ N' 19 w ≠ 1 ∧ N' 9 t = 2 ∧ (be_rh N t → be_rh N' t))
/-- a worker takes a task, or ends a check, and no transaction is changed -/
def be_Non (w : Nat) (N N' : Nat → Nat → Nat) : Prop :=
  (N' 9 = N 9 ∧ N' 10 = N 10 ∧ N' 8 = N 8 ∧ N' 7 = N 7 ∧ N' 12 = N 12 ∧ N' 13 = N 13 ∧ N' 14 = N 14 ∧ N' 15 = N 15 ∧ N' 22 = N 22 ∧ N' 0 6 = N 0 6) ∧
  (∀ v, v ≠ w → N' 19 v = N 19 v ∧ N' 20 v = N 20 v ∧ N' 21 v = N 21 v) ∧
  ((N 19 w = 0 ∧ N' 19 w = 0 ∧ N 0 0 ≤ N 0 3 ∧ (N 0 3 ≤ N 0 4 ∨ N 0 0 ≤ N 0 4) ∧ N' 0 3 = N 0 3 ∧ N' 0 4 = N 0 4) ∨
   (N 19 w = 0 ∧ N' 19 w = 0 ∧ N 0 4 < N 0 3 ∧ N 0 4 < N 0 0 ∧ N 9 (N 0 4) ≠ 2 ∧ N' 0 3 = N 0 3 ∧ N' 0 4 = N 0 4 + 1) ∨
   (N 19 w = 0 ∧ N' 19 w = 2 ∧ N' 20 w = N 0 4 ∧ N' 21 w = N 10 (N 0 4) ∧ N 0 4 < N 0 3 ∧ N 0 4 < N 0 0 ∧ N 9 (N 0 4) = 2 ∧ N' 0 3 = N 0 3 ∧ N' 0 4 = N 0 4 + 1) ∨
   (N 19 w = 0 ∧ N' 19 w = 0 ∧ N 0 3 < N 0 0 ∧ (N 0 3 ≤ N 0 4 ∨ N 0 0 ≤ N 0 4) ∧ N 9 (N 0 3) ≠ 0 ∧ N' 0 3 = N 0 3 + 1 ∧ N' 0 4 = N 0 4) ∨
   (N 19 w = 2 ∧ N' 19 w = 0 ∧ N' 0 3 = N 0 3 ∧ N' 0 4 = N 0 4 ∧ ¬ (N 9 (N 20 w) = 2 ∧ N 10 (N 20 w) = N 21 w ∧ ¬ be_rh N (N 20 w))))
def be_Tr (w : Nat) (N N' : Nat → Nat → Nat) : Prop := be_Non w N N' ∨ ∃ t, be_Act w t N N' ∧ be_Way w t N N'
/-- a worker at an instruction: what stays of the others -/
theorem be_locA {cnt W c0 c1 a b w t : Nat} {am nd : Int32} {s0 : Nat → Int32} {N N' : Nat → Nat → Nat} {V V' : Nat → Nat → Int32} (hC : be_Cs cnt W c0 c1 a b) (h : be_Inv cnt W c0 c1 a b am nd s0 N V) (hw : w < W) (hk : N 19 w = 1) (et : N 20 w = t)
    (hE : N' 0 = N 0 ∧ N' 2 = N 2 ∧ N' 3 = N 3 ∧ N' 4 = N 4 ∧ N' 7 = N 7 ∧ N' 8 = N 8 ∧ N' 9 = N 9 ∧ N' 10 = N 10 ∧ N' 11 = N 11 ∧ N' 16 = N 16 ∧ N' 19 = N 19 ∧ N' 20 = N 20 ∧ N' 21 = N 21 ∧ V' 1 = V 1 ∧ V' 5 = V 5 ∧ V' 6 = V 6)
    (hv : ∀ v, v ≠ w → N' 22 v = N 22 v ∧ N' 24 v = N 24 v ∧ N' 26 v = N 26 v ∧ (∀ i, i < 4 → V' 23 (4 * v + i) = V 23 (4 * v + i)) ∧ (∀ i, i < 16 → V' 25 (16 * v + i) = V 25 (16 * v + i)))
    (hj : ∀ j, j ≠ t → N' 12 j = N 12 j ∧ N' 17 j = N 17 j ∧ ∀ i, i < 12 → V' 18 (12 * j + i) = V 18 (12 * j + i) ∧ N' 13 (12 * j + i) = N 13 (12 * j + i) ∧ N' 14 (12 * j + i) = N 14 (12 * j + i) ∧ N' 15 (12 * j + i) = N 15 (12 * j + i))
    (hB' : ∀ f j, N' f j < 1048576) (j5' : be_J5 cnt c0 c1 (N' 8) (N' 12) (N' 13) (N' 14))
    (hRn : be_Rn cnt c0 c1 a b am nd s0 N' V' w t (N' 22 w)) (hp : N 22 w < N' 22 w ∧ N' 22 w ≤ 12) (hrh : be_rh N t → be_rh N' t) : be_Inv cnt W c0 c1 a b am nd s0 N' V' ∧ be_Tr w N N' := by
  refine ⟨be_Tloc hC h hw hk et hE hv hj hB' j5' hRn, Or.inr ⟨t, ?_, ?_⟩⟩
  · obtain ⟨q0, q2, q3, q4, q7, q8, q9, q10, q11, q16, q19, q20, q21, r1, r5, r6⟩ := hE
    refine ⟨fun f hf => ?_, fun v hvw => ?_, fun k hk => ?_, by rw [q0], by rw [q0]; exact Nat.le_refl _⟩
    · have hjj := hj f (by omega)
      rw [q7, q8, q9, q10]
      refine ⟨rfl, rfl, rfl, fun _ => rfl, hjj.1, fun i hi => ?_⟩
      exact (hjj.2.2 i hi).2
    · rw [q19, q20, q21]
      exact ⟨rfl, rfl, rfl, (hv v hvw).1⟩
    · rw [q0]
      exact ⟨Nat.le_refl _, Nat.le_refl _⟩
  · obtain ⟨q0, q2, q3, q4, q7, q8, q9, q10, q11, q16, q19, q20, q21, r1, r5, r6⟩ := hE
    have hs1 : N 9 t = 1 := by
      have := ((h.2.2.2.2.1.2.1 w hw).2.2 hk).1
      rw [et] at this
      exact this
    exact Or.inr (Or.inr (Or.inl ⟨hk, et, by rw [q19]; exact hk, by rw [q20]; exact et, hp.1, hp.2, by rw [q9]; exact hs1, hrh⟩))
theorem be_finA {cnt W c0 c1 a b w t S : Nat} {am nd : Int32} {s0 : Nat → Int32} {N N' : Nat → Nat → Nat} {V V' : Nat → Nat → Int32} (hC : be_Cs cnt W c0 c1 a b) (h : be_Inv cnt W c0 c1 a b am nd s0 N V) (hst : ∀ j, N 10 j + 1 ≤ N 0 6) (hw : w < W) (hk : N 19 w = 1) (et : N 20 w = t)
    (hp : N 2 t ≤ N 22 w) (hS : S = if N 26 w = 0 then N 24 w else 0) (hV : V' = be_vs V 6 (be_av S t w (V 25) (V 6) 16))
    (hE0 : N' 0 0 = N 0 0 ∧ N' 0 1 = N 0 1 ∧ N' 0 2 = N 0 2 ∧ N' 0 6 = N 0 6 ∧ N' 0 3 = be_wnc (N 11 t) (N 0 3) 8)
    (hE : N' 2 = N 2 ∧ N' 3 = N 3 ∧ N' 4 = N 4 ∧ N' 7 = be_at S t (N 10 t) (N 7) 16 ∧ N' 8 = be_u (N 8) t S ∧ N' 9 = be_wst (N 11 t) (be_u (N 9) t 2) 8 ∧ N' 10 = be_wtn (N 11 t) (N 10) 8 ∧ N' 11 = be_u (N 11) t 0 ∧ N' 12 = N 12 ∧ N' 13 = N 13 ∧ N' 14 = N 14 ∧ N' 15 = N 15 ∧ N' 16 = be_u (N 16) t (N 26 w) ∧ N' 17 = N 17 ∧ N' 22 = N 22 ∧ N' 24 = N 24 ∧ N' 26 = N 26)
    (hB' : ∀ f j, N' f j < 1048576)
    (hcase : (N 0 4 ≤ t ∧ N' 0 4 = N 0 4 ∧ N' 19 = be_u (N 19) w 0 ∧ N' 20 = N 20 ∧ N' 21 = N 21) ∨ (t < N 0 4 ∧ N' 0 4 = t ∧ N' 19 = be_u (N 19) w 0 ∧ N' 20 = N 20 ∧ N' 21 = N 21) ∨ (t < N 0 4 ∧ N' 0 4 = N 0 4 ∧ N' 19 = be_u (N 19) w 2 ∧ N' 20 = be_u (N 20) w t ∧ N' 21 = be_u (N 21) w (N' 10 t) ∧ ¬ be_new S (N 8 t))) :
    be_Inv cnt W c0 c1 a b am nd s0 N' V' ∧ be_Tr w N N' := by
  refine ⟨be_T9 hC h hst hw hk et hp hS hV hE0 hE hB' hcase, Or.inr ⟨t, ?_⟩⟩
  obtain ⟨⟨hB, hT⟩, ⟨e0, e1, e2, es, hP⟩, j1, j2, j3, j4, j5, hD, hR⟩ := h
  obtain ⟨q00, q01, q02, q06, q03⟩ := hE0
  obtain ⟨q2, q3, q4, q7, q8, q9, q10, q11, q12, q13, q14, q15, q16, q17, q22, q24, q26⟩ := hE
  obtain ⟨_, hc8, _, _, hcc0, hcc1, hcne, ha, hb, hab⟩ := hC
  have htc : t < cnt := by
    have := (j3.2.1 w hw).2.1 (by omega)
    rw [et] at this
    exact this
  have hnob : ∀ f j, N 11 f / 2 ^ j % 2 = 1 → f < j ∧ j < cnt ∧ N 9 j = 3 ∧ N 9 f ≠ 2 := j2.2.1
  have lo : ∀ f, f < t → N' 9 f = N 9 f ∧ N' 10 f = N 10 f ∧ N' 8 f = N 8 f ∧ (∀ c, N' 7 (8 * c + f) = N 7 (8 * c + f)) := by
    intro f hf
    have nb : ¬ (f < 8 ∧ N 11 t / 2 ^ f % 2 = 1) := fun z => by have := hnob t f z.2; omega
    refine ⟨?_, ?_, ?_, fun c => ?_⟩
    · rw [q9, be_wst_eq, if_neg nb, be_un (by omega)]
    · rw [q10, be_wtn_eq, if_neg nb]
    · rw [q8, be_un (by omega)]
    · rw [q7, be_at_eq (by omega) (by omega), if_neg (fun z => by omega)]
  refine ⟨⟨fun f hf => ?_, fun v hv => ?_, fun k hk => ⟨?_, ?_⟩, q06, by rcases hcase with q | q | q <;> omega⟩, Or.inr (Or.inr (Or.inr (Or.inr ⟨hk, et, ?_, ?_, ?_⟩)))⟩
  · obtain ⟨l1, l2, l3, l4⟩ := lo f hf
    rw [q12, q13, q14, q15]
    exact ⟨l1, l2, l3, l4, rfl, fun i _ => ⟨rfl, rfl, rfl⟩⟩
  · rw [q22]
    rcases hcase with ⟨_, _, x, y, z⟩ | ⟨_, _, x, y, z⟩ | ⟨_, _, x, y, z, _⟩
    · rw [x, y, z, be_un hv]; exact ⟨rfl, rfl, rfl, rfl⟩
    · rw [x, y, z, be_un hv]; exact ⟨rfl, rfl, rfl, rfl⟩
    · rw [x, y, z, be_un hv, be_un hv, be_un hv]; exact ⟨rfl, rfl, rfl, rfl⟩
  · have := be_wnc_lo (N 11 t) (N 0 3) (min (N 0 3) (k + 1)) (by omega) (fun j hj => by have := hnob t j hj; omega) 8
    rw [q03]
    omega
  · rcases hcase with q | q | q <;> omega
  · rcases hcase with q | q | q
    · rw [q.2.2.1, be_us]; omega
    · rw [q.2.2.1, be_us]; omega
    · rw [q.2.2.1, be_us]; omega
  · rw [q9, be_wst_eq, if_neg (fun z => by have := hnob t t z.2; omega), be_us]
  · intro hr
    refine (be_RH_eq (fun f hf => (lo f hf).2.2.1) (fun f hf => by rw [(lo f hf).1]) (fun f c hf => (lo f hf).2.2.2 c) (by rw [q12]) (fun k hk => ?_) (fun k hk => ((j5 t htc).2.2 k hk).2)).mpr hr
    rw [q13, q14, q15]
    exact ⟨rfl, rfl, rfl⟩
end
section
theorem be_nw_bit {c : Nat} {wr : Nat → Nat} {f : Nat} : ∀ t, be_nw c wr t = f + 1 → wr f / 2 ^ c % 2 = 1 ∧ f < t := by
  intro t
  induction t with
  | zero => intro h; exact absurd h (by unfold be_nw; omega)
  | succ t ih =>
    intro h
    by_cases hb : wr t / 2 ^ c % 2 = 1
    · have e : be_nw c wr (t + 1) = t + 1 := if_pos hb
      rw [e] at h
      have : t = f := by omega
      subst this
      exact ⟨hb, by omega⟩
    · have e : be_nw c wr (t + 1) = be_nw c wr t := if_neg hb
      rw [e] at h
      have := ih h
      exact ⟨this.1, by omega⟩
theorem be_carryF {post : St2 → Prop} {N : Nat → Nat → Nat} {V : Nat → Nat → Int32} {w t S : Nat} (hB : ∀ f j, N f j < 1048576) (hT : ∀ j, N 10 j < 1000000) (hw : w < 6) (et : N 20 w = t) (ht : t < 8) (hp : N 2 t ≤ N 22 w) (hf : N 26 w < 2) (hS : S = if N 26 w = 0 then N 24 w else 0)
    (H1 : N 0 4 ≤ t → post (be_cn (be_up (be_fb (be_fa N w t S) t) 19 w 0) (be_vs V 6 (be_av S t w (V 25) (V 6) 16))))
    (H2 : ¬ N 0 4 ≤ t → be_new S (N 8 t) → post (be_cn (be_up (be_up (be_fb (be_fa N w t S) t) 19 w 0) 0 4 t) (be_vs V 6 (be_av S t w (V 25) (V 6) 16))))
    (H3 : ¬ N 0 4 ≤ t → ¬ be_new S (N 8 t) → post (be_cn (be_up (be_up (be_up (be_fb (be_fa N w t S) t) 19 w 2) 20 w t) 21 w (be_fb (be_fa N w t S) t 10 t)) (be_vs V 6 (be_av S t w (V 25) (V 6) 16)))) :
    wpX_carryOn post (be_cn N V) (nI w) := by
  have b2 := hB 2 t
  have b22 := hB 22 w
  unfold wpX_carryOn be_cn
  dsimp only
  rw [nI_clamp (show w < 2 ^ 31 by omega), et]
  refine ⟨pk_in w 6 hw, nm_e ⟨pk_in w 6 hw, ?_⟩⟩
  rw [nI_clamp (show t < 2 ^ 31 by omega)]
  refine ⟨pk_in t 8 ht, pk_lt (N 22 w) (N 2 t) (fun h => absurd h (by omega)) (fun _ => ?_)⟩
  exact be_finish (N := N) (V := V) hB hT hw et ht hf hS H1 H2 H3
/-- an instruction that sets a register -/
theorem be_insR {cnt W c0 c1 a b w t p r : Nat} {am nd x : Int32} {s0 : Nat → Int32} {N : Nat → Nat → Nat} {V : Nat → Nat → Int32} (hC : be_Cs cnt W c0 c1 a b) (h : be_Inv cnt W c0 c1 a b am nd s0 N V) (hw : w < W) (hk : N 19 w = 1) (et : N 20 w = t) (ep : N 22 w = p) (hp : p < 12) (hr : r < 4)
    (hRn : be_Rn cnt c0 c1 a b am nd s0 (be_up N 22 w (p + 1)) (be_vp V 23 (4 * w + r) x) w t (p + 1)) : be_Inv cnt W c0 c1 a b am nd s0 (be_up N 22 w (p + 1)) (be_vp V 23 (4 * w + r) x) ∧ be_Tr w N (be_up N 22 w (p + 1)) := by
  refine be_locA (V' := be_vp V 23 (4 * w + r) x) hC h hw hk et ⟨rfl, rfl, rfl, rfl, rfl, rfl, rfl, rfl, rfl, rfl, rfl, rfl, rfl, rfl, rfl, rfl⟩ (fun v hv => ⟨be_un hv, rfl, rfl, fun i hi => pk_un (by omega), fun i _ => rfl⟩) (fun j hj => ⟨rfl, rfl, fun i _ => ⟨rfl, rfl, rfl, rfl⟩⟩) (be_B_up h.1.1 (by omega)) h.2.2.2.2.2.2.1 ?_ ?_ (fun z => z)
  · have e : be_up N 22 w (p + 1) 22 w = p + 1 := be_us
    rw [e]
    exact hRn
  · have e : be_up N 22 w (p + 1) 22 w = p + 1 := be_us
    rw [e]
    omega
/-- PUT -/
theorem be_insP {cnt W c0 c1 a b w t p : Nat} {am nd x : Int32} {s0 : Nat → Int32} {N : Nat → Nat → Nat} {V : Nat → Nat → Int32} (hC : be_Cs cnt W c0 c1 a b) (h : be_Inv cnt W c0 c1 a b am nd s0 N V) (hw : w < W) (hk : N 19 w = 1) (et : N 20 w = t) (ep : N 22 w = p) (hp : p < 12) (ho : N 17 t < 12)
    (hRn : be_Rn cnt c0 c1 a b am nd s0 (be_up (be_up N 22 w (p + 1)) 17 t (N 17 t + 1)) (be_vp V 18 (12 * t + N 17 t) x) w t (p + 1)) : be_Inv cnt W c0 c1 a b am nd s0 (be_up (be_up N 22 w (p + 1)) 17 t (N 17 t + 1)) (be_vp V 18 (12 * t + N 17 t) x) ∧ be_Tr w N (be_up (be_up N 22 w (p + 1)) 17 t (N 17 t + 1)) := by
  refine be_locA (V' := be_vp V 18 (12 * t + N 17 t) x) hC h hw hk et ⟨rfl, rfl, rfl, rfl, rfl, rfl, rfl, rfl, rfl, rfl, rfl, rfl, rfl, rfl, rfl, rfl⟩ (fun v hv => ⟨be_un hv, rfl, rfl, fun i hi => rfl, fun i _ => rfl⟩) (fun j hj => ⟨rfl, be_un hj, fun i _ => ⟨pk_un (by omega), rfl, rfl, rfl⟩⟩) (be_B_up (be_B_up h.1.1 (by omega)) (by omega)) h.2.2.2.2.2.2.1 ?_ ?_ (fun z => z)
  · have e : be_up (be_up N 22 w (p + 1)) 17 t (N 17 t + 1) 22 w = p + 1 := be_us
    rw [e]
    exact hRn
  · have e : be_up (be_up N 22 w (p + 1)) 17 t (N 17 t + 1) 22 w = p + 1 := be_us
    rw [e]
    omega
/-- STORE -/
theorem be_insS {cnt W c0 c1 a b w t p c m : Nat} {am nd x : Int32} {s0 : Nat → Int32} {N : Nat → Nat → Nat} {V : Nat → Nat → Int32} (hC : be_Cs cnt W c0 c1 a b) (h : be_Inv cnt W c0 c1 a b am nd s0 N V) (hw : w < W) (hk : N 19 w = 1) (et : N 20 w = t) (ep : N 22 w = p) (hp : p < 12) (hc : c < 16) (hm : m < 1048576)
    (hRn : be_Rn cnt c0 c1 a b am nd s0 (be_up (be_up N 22 w (p + 1)) 24 w m) (be_vp V 25 (16 * w + c) x) w t (p + 1)) : be_Inv cnt W c0 c1 a b am nd s0 (be_up (be_up N 22 w (p + 1)) 24 w m) (be_vp V 25 (16 * w + c) x) ∧ be_Tr w N (be_up (be_up N 22 w (p + 1)) 24 w m) := by
  refine be_locA (V' := be_vp V 25 (16 * w + c) x) hC h hw hk et ⟨rfl, rfl, rfl, rfl, rfl, rfl, rfl, rfl, rfl, rfl, rfl, rfl, rfl, rfl, rfl, rfl⟩ (fun v hv => ⟨be_un hv, be_un hv, rfl, fun i hi => rfl, fun i _ => pk_un (by omega)⟩) (fun j hj => ⟨rfl, rfl, fun i _ => ⟨rfl, rfl, rfl, rfl⟩⟩) (be_B_up (be_B_up h.1.1 (by omega)) hm) h.2.2.2.2.2.2.1 ?_ ?_ (fun z => z)
  · have e : be_up (be_up N 22 w (p + 1)) 24 w m 22 w = p + 1 := be_us
    rw [e]
    exact hRn
  · have e : be_up (be_up N 22 w (p + 1)) 24 w m 22 w = p + 1 := be_us
    rw [e]
    omega
/-- NEED that is met -/
theorem be_insN {cnt W c0 c1 a b w t p : Nat} {am nd : Int32} {s0 : Nat → Int32} {N : Nat → Nat → Nat} {V : Nat → Nat → Int32} (hC : be_Cs cnt W c0 c1 a b) (h : be_Inv cnt W c0 c1 a b am nd s0 N V) (hw : w < W) (hk : N 19 w = 1) (et : N 20 w = t) (ep : N 22 w = p) (hp : p < 12)
    (hRn : be_Rn cnt c0 c1 a b am nd s0 (be_up N 22 w (p + 1)) V w t (p + 1)) : be_Inv cnt W c0 c1 a b am nd s0 (be_up N 22 w (p + 1)) V ∧ be_Tr w N (be_up N 22 w (p + 1)) := by
  refine be_locA (V' := V) hC h hw hk et ⟨rfl, rfl, rfl, rfl, rfl, rfl, rfl, rfl, rfl, rfl, rfl, rfl, rfl, rfl, rfl, rfl⟩ (fun v hv => ⟨be_un hv, rfl, rfl, fun i hi => rfl, fun i _ => rfl⟩) (fun j hj => ⟨rfl, rfl, fun i _ => ⟨rfl, rfl, rfl, rfl⟩⟩) (be_B_up h.1.1 (by omega)) h.2.2.2.2.2.2.1 ?_ ?_ (fun z => z)
  · have e : be_up N 22 w (p + 1) 22 w = p + 1 := be_us
    rw [e]
    exact hRn
  · have e : be_up N 22 w (p + 1) 22 w = p + 1 := be_us
    rw [e]
    omega
/-- NEED that fails -/
theorem be_insF {cnt W c0 c1 a b w t p : Nat} {am nd : Int32} {s0 : Nat → Int32} {N : Nat → Nat → Nat} {V : Nat → Nat → Int32} (hC : be_Cs cnt W c0 c1 a b) (h : be_Inv cnt W c0 c1 a b am nd s0 N V) (hw : w < W) (hk : N 19 w = 1) (et : N 20 w = t) (ep : N 22 w = p) (hp : p < 12)
    (hRn : be_Rn cnt c0 c1 a b am nd s0 (be_up (be_up N 26 w 1) 22 w 12) V w t 12) : be_Inv cnt W c0 c1 a b am nd s0 (be_up (be_up N 26 w 1) 22 w 12) V ∧ be_Tr w N (be_up (be_up N 26 w 1) 22 w 12) := by
  refine be_locA (V' := V) hC h hw hk et ⟨rfl, rfl, rfl, rfl, rfl, rfl, rfl, rfl, rfl, rfl, rfl, rfl, rfl, rfl, rfl, rfl⟩ (fun v hv => ⟨be_un hv, rfl, be_un hv, fun i hi => rfl, fun i _ => rfl⟩) (fun j hj => ⟨rfl, rfl, fun i _ => ⟨rfl, rfl, rfl, rfl⟩⟩) (be_B_up (be_B_up h.1.1 (by omega)) (by omega)) h.2.2.2.2.2.2.1 ?_ ?_ (fun z => z)
  · have e : be_up (be_up N 26 w 1) 22 w 12 22 w = 12 := be_us
    rw [e]
    exact hRn
  · have e : be_up (be_up N 26 w 1) 22 w 12 22 w = 12 := be_us
    rw [e]
    omega
/-- LOAD: n: from whom (0 is the store), x: the turn, v: the value -/
theorem be_insL {cnt W c0 c1 a b w t p r c n x K : Nat} {am nd v : Int32} {s0 : Nat → Int32} {N : Nat → Nat → Nat} {V : Nat → Nat → Int32} (hC : be_Cs cnt W c0 c1 a b) (h : be_Inv cnt W c0 c1 a b am nd s0 N V) (hw : w < W) (hk : N 19 w = 1) (et : N 20 w = t) (ep : N 22 w = p) (hp : p < 12) (hr : r < 4)
    (h12 : N 12 t < 2) (hK : N 12 t = K) (hc : c = be_ce c0 c1 (N 12 t)) (hn : be_nw c (N 8) t = n)
    (hx : (n = 0 ∧ x = 0 ∧ v = V 1 c) ∨ (∃ f, n = f + 1 ∧ N 9 f = 2 ∧ x = N 7 (8 * c + f) ∧ v = V 6 (8 * c + f)))
    (hRn : be_rec c0 c1 s0 (be_up (be_up (be_up (be_up (be_up N 22 w (p + 1)) 13 (12 * t + N 12 t) c) 14 (12 * t + N 12 t) n) 15 (12 * t + N 12 t) x) 12 t (N 12 t + 1)) (be_vp V 23 (4 * w + r) v) t K v →
      (∀ k v', k < N 12 t → be_rec c0 c1 s0 N V t k v' → be_rec c0 c1 s0 (be_up (be_up (be_up (be_up (be_up N 22 w (p + 1)) 13 (12 * t + N 12 t) c) 14 (12 * t + N 12 t) n) 15 (12 * t + N 12 t) x) 12 t (N 12 t + 1)) (be_vp V 23 (4 * w + r) v) t k v') →
      be_Rn cnt c0 c1 a b am nd s0 (be_up (be_up (be_up (be_up (be_up N 22 w (p + 1)) 13 (12 * t + N 12 t) c) 14 (12 * t + N 12 t) n) 15 (12 * t + N 12 t) x) 12 t (N 12 t + 1)) (be_vp V 23 (4 * w + r) v) w t (p + 1)) :
    be_Inv cnt W c0 c1 a b am nd s0 (be_up (be_up (be_up (be_up (be_up N 22 w (p + 1)) 13 (12 * t + N 12 t) c) 14 (12 * t + N 12 t) n) 15 (12 * t + N 12 t) x) 12 t (N 12 t + 1)) (be_vp V 23 (4 * w + r) v) ∧ be_Tr w N (be_up (be_up (be_up (be_up (be_up N 22 w (p + 1)) 13 (12 * t + N 12 t) c) 14 (12 * t + N 12 t) n) 15 (12 * t + N 12 t) x) 12 t (N 12 t + 1)) := by
  subst hK
  have h' := h
  obtain ⟨⟨hB, hT⟩, ⟨e0, e1, e2, es, hP⟩, j1, j2, j3, j4, j5, hD, hR⟩ := h
  have hCc := hC
  obtain ⟨_, hc8, _, _, hcc0, hcc1, hcne, ha, hb, hab⟩ := hC
  have htc : t < cnt := by
    have := (j3.2.1 w hw).2.1 (by omega)
    rw [et] at this
    exact this
  have hc16 : c < 16 := by
    rw [hc]
    unfold be_ce
    split <;> omega
  have hnt : n ≤ t := by
    rw [← hn]
    exact be_nw_le _ _ _
  have hx20 : x < 1048576 := by
    rcases hx with q | ⟨f, q⟩
    · omega
    · rw [q.2.2.1]
      exact hB _ _
  have rk : be_rec c0 c1 s0 (be_up (be_up (be_up (be_up (be_up N 22 w (p + 1)) 13 (12 * t + N 12 t) c) 14 (12 * t + N 12 t) n) 15 (12 * t + N 12 t) x) 12 t (N 12 t + 1)) (be_vp V 23 (4 * w + r) v) t (N 12 t) v := by
    show be_Rec c0 c1 (N 9) (N 10) (N 7) (be_u (N 14) (12 * t + N 12 t) n) (be_u (N 15) (12 * t + N 12 t) x) s0 (V 6) t (N 12 t) v
    unfold be_Rec
    rw [be_us, be_us, ← hc]
    refine ⟨hnt, fun z => ?_, fun f hf => ?_⟩
    · rcases hx with q | ⟨f, q⟩
      · rw [q.2.2, es]
      · omega
    · rcases hx with q | ⟨f', q1, q2, q3, q4⟩
      · omega
      · have : f' = f := by omega
        subst this
        have hbit := be_nw_bit t (hn.trans hf)
        have hDn := hD f' (by omega) q2
        have heq : N 7 (8 * c + f') = N 10 f' := by
          obtain ⟨v1, _, z | z⟩ := hDn
          · rw [z.2.2.1] at hbit
            exact absurd hbit.1 (be_bit0 c)
          · obtain ⟨_, _, _, _, v2, _, _, _, z1, z2, _⟩ := z
            rw [hc]
            unfold be_ce
            split
            · exact z1
            · exact z2
        exact ⟨by omega, fun z => absurd q2 z, fun _ => q4.symm⟩
  have rko : ∀ k v', k < N 12 t → be_rec c0 c1 s0 N V t k v' → be_rec c0 c1 s0 (be_up (be_up (be_up (be_up (be_up N 22 w (p + 1)) 13 (12 * t + N 12 t) c) 14 (12 * t + N 12 t) n) 15 (12 * t + N 12 t) x) 12 t (N 12 t + 1)) (be_vp V 23 (4 * w + r) v) t k v' := by
    intro k v' hk hr
    refine be_Rec_mono (by omega) hr ⟨be_un (by omega), be_un (by omega)⟩ (fun f _ => ⟨Nat.le_refl _, Or.inl⟩) (fun f c _ => Or.inl ⟨rfl, rfl⟩)
  have j5' := be_J5_read j5 htc hc8 h12 hnt
  rw [← hc] at j5'
  refine be_locA (V' := be_vp V 23 (4 * w + r) v) hCc h' hw hk et ⟨rfl, rfl, rfl, rfl, rfl, rfl, rfl, rfl, rfl, rfl, rfl, rfl, rfl, rfl, rfl, rfl⟩ (fun v hv => ⟨be_un hv, rfl, rfl, fun i hi => pk_un (by omega), fun i _ => rfl⟩) (fun j hj => ⟨be_un hj, rfl, fun i hi => ⟨rfl, be_un (by omega), be_un (by omega), be_un (by omega)⟩⟩) (be_B_up (be_B_up (be_B_up (be_B_up (be_B_up hB (by omega)) (by omega)) (by omega)) hx20) (by omega)) j5' ?_ ?_ ?_
  · have e : be_up (be_up (be_up (be_up (be_up N 22 w (p + 1)) 13 (12 * t + N 12 t) c) 14 (12 * t + N 12 t) n) 15 (12 * t + N 12 t) x) 12 t (N 12 t + 1) 22 w = p + 1 := be_us
    rw [e]
    exact hRn rk rko
  · have e : be_up (be_up (be_up (be_up (be_up N 22 w (p + 1)) 13 (12 * t + N 12 t) c) 14 (12 * t + N 12 t) n) 15 (12 * t + N 12 t) x) 12 t (N 12 t + 1) 22 w = p + 1 := be_us
    rw [e]
    omega
  · intro hrh k hk
    have hk' : k < be_u (N 12) t (N 12 t + 1) t := hk
    rw [be_us] at hk'
    show be_RK (N 9) (N 7) (N 8) (be_u (N 13) (12 * t + N 12 t) c) (be_u (N 14) (12 * t + N 12 t) n) (be_u (N 15) (12 * t + N 12 t) x) t k
    unfold be_RK
    by_cases e : k = N 12 t
    · subst e
      rw [be_us, be_us, be_us]
      refine ⟨hn, fun h0 => ?_⟩
      rcases hx with q | ⟨f, q1, q2, q3, q4⟩
      · omega
      · have e1 : n - 1 = f := by omega
        rw [e1]
        exact ⟨q2, q3.symm⟩
    · rw [be_un (by omega), be_un (by omega), be_un (by omega)]
      exact hrh k (by omega)
end
section
theorem be_stepC {cnt W c0 c1 a b w : Nat} {am nd : Int32} {s0 : Nat → Int32} {N : Nat → Nat → Nat} {V : Nat → Nat → Int32} {post : St2 → Prop} (hC : be_Cs cnt W c0 c1 a b) (h : be_Inv cnt W c0 c1 a b am nd s0 N V) (hst : ∀ j, N 10 j + 1 ≤ N 0 6) (hck : N 0 6 < 1000000) (hw : w < W) (hk : N 19 w = 1)
    (H : ∀ N' V', be_Inv cnt W c0 c1 a b am nd s0 N' V' → be_Tr w N N' → post (be_cn N' V')) : wpX_carryOn post (be_cn N V) (nI w) := by
  have h' := h
  obtain ⟨⟨hB, hT⟩, ⟨e0, e1, e2, es, hP⟩, j1, j2, j3, j4, j5, hD, hR⟩ := h
  have hCc := hC
  obtain ⟨_, hc8, _, hW6, hcc0, hcc1, hcne, ha, hb, hab⟩ := hC
  obtain ⟨t, et⟩ : ∃ t, N 20 w = t := ⟨_, rfl⟩
  obtain ⟨p, ep⟩ : ∃ p, N 22 w = p := ⟨_, rfl⟩
  have htc : t < cnt := by
    have := (j3.2.1 w hw).2.1 (by omega)
    rw [et] at this
    exact this
  have hs1 : N 9 t = 1 := by
    have := ((j3.2.1 w hw).2.2 hk).1
    rw [et] at this
    exact this
  have hRw := hR w hw hk
  rw [et, ep] at hRw
  have hPt := hP t htc
  have hMlt := be_M_lt hcc0 hcc1
  by_cases hfin : N 2 t ≤ N 22 w
  · have hf2 : N 26 w < 2 := by
      rcases hRw with q | ⟨v1, _, q | q | q | q⟩ <;> omega
    obtain ⟨S, hS⟩ : ∃ S, S = if N 26 w = 0 then N 24 w else 0 := ⟨_, rfl⟩
    have hS20 : S < 1048576 := by
      have := hB 24 w
      rw [hS]
      split <;> omega
    have hBa : ∀ f j, be_fa N w t S f j < 1048576 := by
      refine be_B_up (be_B_up (be_B_fs (be_B_up hB hS20) ?_) (hB 26 w)) (by omega)
      intro j
      have hj : j = 8 * (j / 8) + j % 8 := by omega
      rw [hj, be_at_eq (by omega) (by omega)]
      split
      · exact hB 10 t
      · exact hB 7 _
    have hBb : ∀ f j, be_fb (be_fa N w t S) t f j < 1048576 := by
      refine be_B_up (be_B_fs (be_B_fs (be_B_up hBa ?_) ?_) ?_) (by omega)
      · have := be_wnc_le (be_fa N w t S 11 t) (be_fa N w t S 0 3) 8
        have := hBa 0 3
        omega
      · exact be_wst_le (hBa 9) (by omega) 8
      · intro j
        have e : be_fa N w t S 10 = N 10 := rfl
        rw [e, be_wtn_eq]
        have := hst j
        split <;> omega
    refine be_carryF (N := N) (V := V) (S := S) hB (fun j => by have := hst j; omega) (by omega) et (by omega) hfin hf2 hS (fun z => ?_) (fun z1 z2 => ?_) (fun z1 z2 => ?_)
    · obtain ⟨g1, g2⟩ := be_finA (N' := be_up (be_fb (be_fa N w t S) t) 19 w 0) (V' := be_vs V 6 (be_av S t w (V 25) (V 6) 16)) hCc h' hst hw hk et hfin hS rfl ⟨rfl, rfl, rfl, rfl, rfl⟩ ⟨rfl, rfl, rfl, rfl, rfl, rfl, rfl, rfl, rfl, rfl, rfl, rfl, rfl, rfl, rfl, rfl, rfl⟩ (be_B_up hBb (by omega)) (Or.inl ⟨z, rfl, rfl, rfl, rfl⟩)
      exact H _ _ g1 g2
    · obtain ⟨g1, g2⟩ := be_finA (N' := be_up (be_up (be_fb (be_fa N w t S) t) 19 w 0) 0 4 t) (V' := be_vs V 6 (be_av S t w (V 25) (V 6) 16)) hCc h' hst hw hk et hfin hS rfl ⟨rfl, rfl, rfl, rfl, rfl⟩ ⟨rfl, rfl, rfl, rfl, rfl, rfl, rfl, rfl, rfl, rfl, rfl, rfl, rfl, rfl, rfl, rfl, rfl⟩ (be_B_up (be_B_up hBb (by omega)) (by omega)) (Or.inr (Or.inl ⟨by omega, rfl, rfl, rfl, rfl⟩))
      exact H _ _ g1 g2
    · obtain ⟨g1, g2⟩ := be_finA (N' := be_up (be_up (be_up (be_fb (be_fa N w t S) t) 19 w 2) 20 w t) 21 w (be_fb (be_fa N w t S) t 10 t)) (V' := be_vs V 6 (be_av S t w (V 25) (V 6) 16)) hCc h' hst hw hk et hfin hS rfl ⟨rfl, rfl, rfl, rfl, rfl⟩ ⟨rfl, rfl, rfl, rfl, rfl, rfl, rfl, rfl, rfl, rfl, rfl, rfl, rfl, rfl, rfl, rfl, rfl⟩ (be_B_up (be_B_up (be_B_up hBb (by omega)) (by omega)) (hBb 10 t)) (Or.inr (Or.inr ⟨by omega, rfl, rfl, rfl, rfl, z2⟩))
      exact H _ _ g1 g2
  · have hlen : N 2 t ≤ 12 := by
      rw [hPt.1]
      split <;> omega
    rw [ep] at hfin
    have hlt : p < N 2 t := by omega
    obtain ⟨hl, ⟨o0, p0, n0⟩, ⟨o1, p1, n1⟩, ⟨o2, p2, n2⟩, ⟨o3, p3⟩, ⟨o4, p4, n4⟩, ⟨o5, p5⟩, ⟨o6, p6, n6⟩, ⟨o7, p7⟩, ⟨o8, p8, n8⟩, ⟨o9, p9⟩, hlast⟩ := hPt
    have hwt : ∀ f, N 11 f ||| 2 ^ t < 1048576 := fun f => Nat.or_lt_two_pow (n := 20) (hB 11 f) (Nat.pow_lt_pow_right (by omega) (by omega))
    have hwait : ∀ f, f < t → N 9 f ≠ 2 → post (be_cn (be_up (be_up (be_up (be_up N 22 w (p + 1)) 11 f (N 11 f ||| 2 ^ t)) 9 t 3) 19 w 0) V) := by
      intro f hf hf2
      have g := be_T7 (p := p + 1) hCc h' hw hk (by omega) (by rw [et]; exact hf) hf2 (by rw [et]; exact hwt f)
      rw [et] at g
      refine H _ _ g (Or.inr ⟨t, ⟨fun g hg => ⟨be_un (by omega), rfl, rfl, fun _ => rfl, rfl, fun i _ => ⟨rfl, rfl, rfl⟩⟩, fun v hv => ⟨be_un hv, rfl, rfl, be_un hv⟩, fun k _ => ⟨Nat.le_refl _, Nat.le_refl _⟩, rfl, Nat.le_refl _⟩, Or.inr (Or.inr (Or.inr (Or.inl ⟨hk, et, be_us, be_us, f, hf, hf2⟩)))⟩)
    have hc20 : 2 ^ c0 < 1048576 := by
      have := Nat.pow_lt_pow_right (a := 2) (by omega) (show c0 < 20 by omega)
      omega
    have d4 : (4 * w + b) ≠ 4 * w + a := by omega
    have d4' : (4 * w + a) ≠ 4 * w + b := by omega
    have d16 : (16 * w + c1) ≠ 16 * w + c0 := by omega
    have d16' : (16 * w + c0) ≠ 16 * w + c1 := by omega
    rcases hRw with hq | ⟨v1, r1, hq | hq | hq | hq⟩
    · obtain ⟨rfl, x12, x24, x26, x17⟩ := hq
      have a1 : 5 * a / 4 = a := by omega
      refine be_carry (N := N) (V := V) hB (by omega) et (by omega) ep hlt hlen o0 p0 (by omega) (Or.inr (Or.inl ⟨rfl, c0, hcc0, n0, by omega, by rw [x24]; exact be_bit0 c0, fun f hf _ hf2 => hwait f hf hf2, fun hn => ?_, fun f hf hn hf2 => ?_⟩))
      · obtain ⟨g1, g2⟩ := be_insL (r := 5 * a / 4) (c := c0) (n := 0) (x := 0) (v := V 1 c0) hCc h' hw hk et ep (by omega) (by omega) (by omega) x12 (by rw [x12]; rfl) hn (Or.inl ⟨rfl, rfl, rfl⟩) (fun rk rko => by
          refine Or.inr ⟨_, rk, Or.inl ⟨rfl, ?_, x24, x26, x17, ?_⟩⟩
          · show be_u (N 12) t (N 12 t + 1) t = 1
            rw [be_us, x12]
          · show upd (V 23) (4 * w + 5 * a / 4) (V 1 c0) (4 * w + a) = V 1 c0
            rw [a1, pk_us])
        exact H _ _ g1 g2
      · obtain ⟨g1, g2⟩ := be_insL (r := 5 * a / 4) (c := c0) (n := f + 1) (x := N 7 (8 * c0 + f)) (v := V 6 (8 * c0 + f)) hCc h' hw hk et ep (by omega) (by omega) (by omega) x12 (by rw [x12]; rfl) hn (Or.inr ⟨f, rfl, hf2, rfl, rfl⟩) (fun rk rko => by
          refine Or.inr ⟨_, rk, Or.inl ⟨rfl, ?_, x24, x26, x17, ?_⟩⟩
          · show be_u (N 12) t (N 12 t + 1) t = 1
            rw [be_us, x12]
          · show upd (V 23) (4 * w + 5 * a / 4) (V 6 (8 * c0 + f)) (4 * w + a) = V 6 (8 * c0 + f)
            rw [a1, pk_us])
        exact H _ _ g1 g2
    · obtain ⟨rfl, x12, x24, x26, x17, xa⟩ := hq
      have a1 : (4 * a + b) / 4 = a := by omega
      refine be_carry (N := N) (V := V) hB (by omega) et (by omega) ep hlt hlen o1 p1 (by omega) (Or.inr (Or.inr (Or.inr (Or.inr ⟨rfl, fun hn => ?_, fun hn => ?_⟩))))
      · rw [a1, n1, xa] at hn
        obtain ⟨g1, g2⟩ := be_insN hCc h' hw hk et ep (by omega) (Or.inr ⟨v1, r1, Or.inr (Or.inr (Or.inl ⟨hn, x26, by omega, by omega, x12, fun _ => xa, fun z => absurd z (by omega), fun z => absurd z (by omega), fun _ => x24, fun z => absurd z (by omega), fun _ => x17, fun z => absurd z (by omega)⟩))⟩)
        exact H _ _ g1 g2
      · rw [a1, n1, xa] at hn
        obtain ⟨g1, g2⟩ := be_insF hCc h' hw hk et ep (by omega) (Or.inr ⟨v1, r1, Or.inr (Or.inl ⟨rfl, x12, be_us, hn⟩)⟩)
        exact H _ _ g1 g2
    · have := hq.1
      rw [hl] at hlt
      split at hlt <;> omega
    · obtain ⟨x1, x2, x3, x4, x5, y1, y2, y3, y4, y5, y6, y7⟩ := hq
      have hp : p = 2 ∨ p = 3 ∨ p = 4 ∨ p = 5 ∨ p = 6 := by omega
      rcases hp with rfl | rfl | rfl | rfl | rfl
      · have a1 : 5 * b / 4 = b := by omega
        refine be_carry (N := N) (V := V) hB (by omega) et (by omega) ep hlt hlen o2 p2 (by omega) (Or.inl ⟨by omega, ?_⟩)
        rw [a1, if_pos rfl, n2]
        obtain ⟨g1, g2⟩ := be_insR (r := b) (x := am) hCc h' hw hk et ep (by omega) hb (Or.inr ⟨v1, r1, Or.inr (Or.inr (Or.inl ⟨x1, x2, by omega, by omega, x5, fun _ => (pk_un d4').trans (y1 (by omega)), fun z => absurd z (by omega), fun _ => pk_us, fun _ => y4 (by omega), fun z => absurd z (by omega), fun _ => y6 (by omega), fun z => absurd z (by omega)⟩))⟩)
        exact H _ _ g1 g2
      · have a1 : (4 * a + b) / 4 = a := by omega
        have a2 : (4 * a + b) % 4 = b := by omega
        refine be_carry (N := N) (V := V) hB (by omega) et (by omega) ep hlt hlen o3 p3 (by omega) (Or.inl ⟨by omega, ?_⟩)
        rw [a1, a2, if_neg (by omega), if_neg (by omega), if_pos rfl, y1 (by omega), y3 (by omega)]
        obtain ⟨g1, g2⟩ := be_insR (r := a) (x := v1 - am) hCc h' hw hk et ep (by omega) ha (Or.inr ⟨v1, r1, Or.inr (Or.inr (Or.inl ⟨x1, x2, by omega, by omega, x5, fun z => absurd z (by omega), fun _ => pk_us, fun _ => (pk_un d4).trans (y3 (by omega)), fun _ => y4 (by omega), fun z => absurd z (by omega), fun _ => y6 (by omega), fun z => absurd z (by omega)⟩))⟩)
        exact H _ _ g1 g2
      · have a1 : 4 * a / 4 = a := by omega
        refine be_carry (N := N) (V := V) hB (by omega) et (by omega) ep hlt hlen o4 p4 (by omega) (Or.inr (Or.inr (Or.inl ⟨rfl, c0, hcc0, n4, ?_⟩)))
        rw [a1, y2 (by omega), y4 (by omega), Nat.zero_or]
        obtain ⟨g1, g2⟩ := be_insS (c := c0) (m := 2 ^ c0) (x := v1 - am) hCc h' hw hk et ep (by omega) hcc0 hc20 (Or.inr ⟨v1, r1, Or.inr (Or.inr (Or.inl ⟨x1, x2, by omega, by omega, x5, fun z => absurd z (by omega), fun _ => y2 (by omega), fun _ => y3 (by omega), fun z => absurd z (by omega), fun _ => ⟨be_us, pk_us⟩, fun _ => y6 (by omega), fun z => absurd z (by omega)⟩))⟩)
        exact H _ _ g1 g2
      · have a1 : 4 * a / 4 = a := by omega
        have o17 := y6 (by omega)
        have k1 : be_u (N 17) t (N 17 t + 1) t = 1 := by rw [be_us, o17]
        have k2 : upd (V 18) (12 * t + N 17 t) (v1 - am) (12 * t + 0) = v1 - am := by rw [o17, pk_us]
        refine be_carry (N := N) (V := V) hB (by omega) et (by omega) ep hlt hlen o5 p5 (by omega) (Or.inr (Or.inr (Or.inr (Or.inl ⟨rfl, by omega, ?_⟩))))
        rw [a1, y2 (by omega)]
        obtain ⟨g1, g2⟩ := be_insP (x := v1 - am) hCc h' hw hk et ep (by omega) (by omega) (Or.inr ⟨v1, r1, Or.inr (Or.inr (Or.inl ⟨x1, x2, by omega, by omega, x5, fun z => absurd z (by omega), fun _ => y2 (by omega), fun _ => y3 (by omega), fun z => absurd z (by omega), fun _ => y5 (by omega), fun z => absurd z (by omega), fun _ => ⟨k1, k2⟩⟩))⟩)
        exact H _ _ g1 g2
      · have a1 : (4 * a + b) / 4 = a := by omega
        have nb : ¬ N 24 w / 2 ^ c1 % 2 = 1 := by
          rw [(y5 (by omega)).1, be_bit1]
          omega
        refine be_carry (N := N) (V := V) hB (by omega) et (by omega) ep hlt hlen o6 p6 (by omega) (Or.inr (Or.inl ⟨rfl, c1, hcc1, n6, by omega, nb, fun f hf _ hf2 => hwait f hf hf2, fun hn => ?_, fun f hf hn hf2 => ?_⟩))
        · obtain ⟨g1, g2⟩ := be_insL (r := (4 * a + b) / 4) (c := c1) (n := 0) (x := 0) (v := V 1 c1) hCc h' hw hk et ep (by omega) (by omega) (by omega) x5 (by rw [x5]; rfl) hn (Or.inl ⟨rfl, rfl, rfl⟩) (fun rk rko => by
            refine Or.inr ⟨v1, rko 0 v1 (by omega) r1, Or.inr (Or.inr (Or.inr ⟨x1, x2, by omega, by omega, ?_, (y5 (by omega)).2, (y7 rfl).2, _, rk, fun _ => ?_, fun _ => ?_, fun z => absurd z (by omega), fun _ => (y5 (by omega)).1, fun z => absurd z (by omega), fun _ => (y7 rfl).1, fun z => absurd z (by omega), fun z => absurd z (by omega), fun z => absurd z (by omega), fun z => absurd z (by omega)⟩))⟩
            · show be_u (N 12) t (N 12 t + 1) t = 2
              rw [be_us, x5]
            · show upd (V 23) (4 * w + (4 * a + b) / 4) (V 1 c1) (4 * w + b) = am
              rw [a1, pk_un d4]
              exact y3 (by omega)
            · show upd (V 23) (4 * w + (4 * a + b) / 4) (V 1 c1) (4 * w + a) = V 1 c1
              rw [a1, pk_us])
          exact H _ _ g1 g2
        · obtain ⟨g1, g2⟩ := be_insL (r := (4 * a + b) / 4) (c := c1) (n := f + 1) (x := N 7 (8 * c1 + f)) (v := V 6 (8 * c1 + f)) hCc h' hw hk et ep (by omega) (by omega) (by omega) x5 (by rw [x5]; rfl) hn (Or.inr ⟨f, rfl, hf2, rfl, rfl⟩) (fun rk rko => by
            refine Or.inr ⟨v1, rko 0 v1 (by omega) r1, Or.inr (Or.inr (Or.inr ⟨x1, x2, by omega, by omega, ?_, (y5 (by omega)).2, (y7 rfl).2, _, rk, fun _ => ?_, fun _ => ?_, fun z => absurd z (by omega), fun _ => (y5 (by omega)).1, fun z => absurd z (by omega), fun _ => (y7 rfl).1, fun z => absurd z (by omega), fun z => absurd z (by omega), fun z => absurd z (by omega), fun z => absurd z (by omega)⟩))⟩
            · show be_u (N 12) t (N 12 t + 1) t = 2
              rw [be_us, x5]
            · show upd (V 23) (4 * w + (4 * a + b) / 4) (V 6 (8 * c1 + f)) (4 * w + b) = am
              rw [a1, pk_un d4]
              exact y3 (by omega)
            · show upd (V 23) (4 * w + (4 * a + b) / 4) (V 6 (8 * c1 + f)) (4 * w + a) = V 6 (8 * c1 + f)
              rw [a1, pk_us])
          exact H _ _ g1 g2
    · obtain ⟨x1, x2, x3, x4, x5, x6, x7, v2, r2, y1, y2, y3, y4, y5, y6, y7, y8, y9, y10⟩ := hq
      have hp : p = 7 ∨ p = 8 ∨ p = 9 ∨ p = 10 ∨ p = 11 ∨ p = 12 := by omega
      rcases hp with rfl | rfl | rfl | rfl | rfl | rfl
      · have a1 : (4 * a + b) / 4 = a := by omega
        have a2 : (4 * a + b) % 4 = b := by omega
        refine be_carry (N := N) (V := V) hB (by omega) et (by omega) ep hlt hlen o7 p7 (by omega) (Or.inl ⟨by omega, ?_⟩)
        rw [a1, a2, if_neg (by omega), if_pos rfl, y2 rfl, y1 (by omega)]
        obtain ⟨g1, g2⟩ := be_insR (r := a) (x := v2 + am) hCc h' hw hk et ep (by omega) ha (Or.inr ⟨v1, r1, Or.inr (Or.inr (Or.inr ⟨x1, x2, by omega, by omega, x5, x6, x7, v2, r2, fun _ => (pk_un d4).trans (y1 (by omega)), fun z => absurd z (by omega), fun _ => pk_us, fun _ => y4 (by omega), fun z => absurd z (by omega), fun _ => y6 (by omega), fun z => absurd z (by omega), fun z => absurd z (by omega), fun z => absurd z (by omega), fun z => absurd z (by omega)⟩))⟩)
        exact H _ _ g1 g2
      · have a1 : 5 * a / 4 = a := by omega
        refine be_carry (N := N) (V := V) hB (by omega) et (by omega) ep hlt hlen o8 p8 (by omega) (Or.inr (Or.inr (Or.inl ⟨rfl, c1, hcc1, n8, ?_⟩)))
        rw [a1, y3 (by omega), y4 (by omega)]
        obtain ⟨g1, g2⟩ := be_insS (c := c1) (m := 2 ^ c0 ||| 2 ^ c1) (x := v2 + am) hCc h' hw hk et ep (by omega) hcc1 (by omega) (Or.inr ⟨v1, r1, Or.inr (Or.inr (Or.inr ⟨x1, x2, by omega, by omega, x5, (pk_un d16').trans x6, x7, v2, r2, fun _ => y1 (by omega), fun z => absurd z (by omega), fun _ => y3 (by omega), fun z => absurd z (by omega), fun _ => ⟨be_us, pk_us⟩, fun _ => y6 (by omega), fun z => absurd z (by omega), fun z => absurd z (by omega), fun z => absurd z (by omega), fun z => absurd z (by omega)⟩))⟩)
        exact H _ _ g1 g2
      · have a1 : 4 * a / 4 = a := by omega
        have o17 := y6 (by omega)
        have k1 : upd (V 18) (12 * t + N 17 t) (v2 + am) (12 * t + 0) = v1 - am := by
          rw [o17, pk_un (by omega)]
          exact x7
        have k2 : upd (V 18) (12 * t + N 17 t) (v2 + am) (12 * t + 1) = v2 + am := by rw [o17, pk_us]
        have k3 : be_u (N 17) t (N 17 t + 1) t = 2 := by rw [be_us, o17]
        refine be_carry (N := N) (V := V) hB (by omega) et (by omega) ep hlt hlen o9 p9 (by omega) (Or.inr (Or.inr (Or.inr (Or.inl ⟨rfl, by omega, ?_⟩))))
        rw [a1, y3 (by omega)]
        obtain ⟨g1, g2⟩ := be_insP (x := v2 + am) hCc h' hw hk et ep (by omega) (by omega) (Or.inr ⟨v1, r1, Or.inr (Or.inr (Or.inr ⟨x1, x2, by omega, by omega, x5, x6, k1, v2, r2, fun _ => y1 (by omega), fun z => absurd z (by omega), fun _ => y3 (by omega), fun z => absurd z (by omega), fun _ => y5 (by omega), fun z => absurd z (by omega), fun _ => k2, fun _ _ => k3, fun z => absurd z (by omega), fun z => absurd z (by omega)⟩))⟩)
        exact H _ _ g1 g2
      · have el : t + 1 = cnt := by
          rw [hl] at hlt
          split at hlt
          · assumption
          · omega
        obtain ⟨o10, p10, o11, p11⟩ := hlast el
        have a1 : (4 * b + a) / 4 = b := by omega
        have a2 : (4 * b + a) % 4 = a := by omega
        refine be_carry (N := N) (V := V) hB (by omega) et (by omega) ep hlt hlen o10 p10 (by omega) (Or.inl ⟨by omega, ?_⟩)
        rw [a1, a2, if_neg (by omega), if_neg (by omega), if_neg (by omega), y3 (by omega), y1 (by omega)]
        obtain ⟨g1, g2⟩ := be_insR (r := b) (x := am * (v2 + am)) hCc h' hw hk et ep (by omega) hb (Or.inr ⟨v1, r1, Or.inr (Or.inr (Or.inr ⟨x1, x2, by omega, by omega, x5, x6, x7, v2, r2, fun z => absurd z (by omega), fun z => absurd z (by omega), fun _ => (pk_un d4').trans (y3 (by omega)), fun z => absurd z (by omega), fun _ => y5 (by omega), fun z => absurd z (by omega), fun _ => y7 (by omega), fun _ _ => y8 (by omega) (by omega), fun _ => ⟨pk_us, el⟩, fun z => absurd z (by omega)⟩))⟩)
        exact H _ _ g1 g2
      · have el := (y9 (by omega)).2
        obtain ⟨o10, p10, o11, p11⟩ := hlast el
        have a1 : 4 * b / 4 = b := by omega
        have o17 := y8 (by omega) (by omega)
        have k1 : upd (V 18) (12 * t + N 17 t) (am * (v2 + am)) (12 * t + 0) = v1 - am := by
          rw [o17, pk_un (by omega)]
          exact x7
        have k2 : upd (V 18) (12 * t + N 17 t) (am * (v2 + am)) (12 * t + 1) = v2 + am := by
          rw [o17, pk_un (by omega)]
          exact y7 (by omega)
        have k3 : be_u (N 17) t (N 17 t + 1) t = 3 := by rw [be_us, o17]
        have k4 : upd (V 18) (12 * t + N 17 t) (am * (v2 + am)) (12 * t + 2) = am * (v2 + am) := by rw [o17, pk_us]
        refine be_carry (N := N) (V := V) hB (by omega) et (by omega) ep hlt hlen o11 p11 (by omega) (Or.inr (Or.inr (Or.inr (Or.inl ⟨rfl, by omega, ?_⟩))))
        rw [a1, (y9 (by omega)).1]
        obtain ⟨g1, g2⟩ := be_insP (x := am * (v2 + am)) hCc h' hw hk et ep (by omega) (by omega) (Or.inr ⟨v1, r1, Or.inr (Or.inr (Or.inr ⟨x1, x2, by omega, by omega, x5, x6, k1, v2, r2, fun z => absurd z (by omega), fun z => absurd z (by omega), fun _ => y3 (by omega), fun z => absurd z (by omega), fun _ => y5 (by omega), fun z => absurd z (by omega), fun _ => k2, fun _ z => absurd z (by omega), fun _ => y9 (by omega), fun _ => ⟨k3, k4⟩⟩))⟩)
        exact H _ _ g1 g2
      · rw [hl] at hlt
        split at hlt <;> omega
end
section
theorem be_step {cnt W c0 c1 a b w : Nat} {am nd : Int32} {s0 : Nat → Int32} {N : Nat → Nat → Nat} {V : Nat → Nat → Int32} {post : St2 → Prop} (hC : be_Cs cnt W c0 c1 a b) (h : be_Inv cnt W c0 c1 a b am nd s0 N V) (hst : ∀ j, N 10 j + 1 ≤ N 0 6) (hck : N 0 6 < 1000000) (hw : w < W)
    (H : ∀ N' V', be_Inv cnt W c0 c1 a b am nd s0 N' V' → be_Tr w N N' → post (be_cn N' V')) : wpX_step post (be_cn N V) (nI w) := by
  have h' := h
  obtain ⟨⟨hB, hT⟩, ⟨e0, e1, e2, es, hP⟩, j1, j2, j3, j4, j5, hD, hR⟩ := h
  have hCc := hC
  obtain ⟨_, hc8, _, hW6, hcc0, hcc1, hcne, ha, hb, hab⟩ := hC
  have b19 := hB 19 w
  unfold wpX_step be_cn
  dsimp only
  rw [nI_clamp (show w < 2 ^ 31 by omega)]
  refine ⟨pk_in w 6 (by omega), pk_eq (N 19 w) 0 (fun h0 => ?_) (fun h0 => ⟨pk_in w 6 (by omega), pk_eq (N 19 w) 2 (fun h2 => ?_) (fun h2 => ?_)⟩)⟩
  · refine be_takeTask (N := N) (V := V) hB (by omega) (by omega) (fun z1 z2 => ?_) (fun z1 z2 z3 => ?_) (fun z1 z2 z3 => ?_) (fun z1 z2 z3 => ?_) (fun z1 z2 z3 g hg => ?_)
    · exact H N V h' (Or.inl ⟨⟨rfl, rfl, rfl, rfl, rfl, rfl, rfl, rfl, rfl, rfl⟩, fun v _ => ⟨rfl, rfl, rfl⟩, Or.inl ⟨h0, h0, z1, z2, rfl, rfl⟩⟩)
    · exact H _ V (be_T1 hCc h' (by omega) z3) (Or.inl ⟨⟨rfl, rfl, rfl, rfl, rfl, rfl, rfl, rfl, rfl, rfl⟩, fun v _ => ⟨rfl, rfl, rfl⟩, Or.inr (Or.inl ⟨h0, h0, z1, z2, z3, rfl, rfl⟩)⟩)
    · exact H _ V (be_T2 hCc h' hw h0 (by omega)) (Or.inl ⟨⟨rfl, rfl, rfl, rfl, rfl, rfl, rfl, rfl, rfl, rfl⟩, fun v hv => ⟨be_un hv, be_un hv, be_un hv⟩, Or.inr (Or.inr (Or.inl ⟨h0, be_us, be_us, be_us, z1, z2, z3, rfl, rfl⟩))⟩)
    · exact H _ V (be_T3 hCc h' (by omega) z3) (Or.inl ⟨⟨rfl, rfl, rfl, rfl, rfl, rfl, rfl, rfl, rfl, rfl⟩, fun v _ => ⟨rfl, rfl, rfl⟩, Or.inr (Or.inr (Or.inr (Or.inl ⟨h0, h0, z1, z2, z3, rfl, rfl⟩)))⟩)
    · refine H _ _ (be_T4 hCc h' hw h0 (by omega) z3 hg) (Or.inr ⟨N 0 3, ⟨fun f hf => ⟨be_un (by omega), rfl, rfl, fun _ => rfl, be_un (by omega), fun i _ => ⟨rfl, rfl, rfl⟩⟩, fun v hv => ⟨be_un hv, be_un hv, be_un hv, be_un hv⟩, fun k hk => ⟨?_, Nat.le_refl _⟩, rfl, Nat.le_refl _⟩, Or.inl ⟨h0, rfl, z1, z2, rfl, rfl, z3, be_us, be_us, be_us, be_us, be_us⟩⟩)
      show min (N 0 3) (k + 1) ≤ min (N 0 3 + 1) (k + 1)
      omega
  · have htc : N 20 w < cnt := (j3.2.1 w hw).2.1 (by omega)
    refine be_checkNow (N := N) (V := V) hB (by omega) rfl (by omega) (by have := (j5 _ htc).1; omega) (fun k hk => ?_) (fun z => ?_) (fun z1 z2 z3 => ?_)
    · rw [((j5 _ htc).2.2 k hk).1]
      unfold be_ce
      split <;> omega
    · exact H _ V (be_T5 hCc h' h2 z) (Or.inl ⟨⟨rfl, rfl, rfl, rfl, rfl, rfl, rfl, rfl, rfl, rfl⟩, fun v hv => ⟨be_un hv, rfl, rfl⟩, Or.inr (Or.inr (Or.inr (Or.inr ⟨h2, be_us, rfl, rfl, z⟩)))⟩)
    · refine H _ V (be_T6 hCc h' hst hw h2 z1) (Or.inr ⟨N 20 w, ⟨fun f hf => ⟨be_un (by omega), be_un (by omega), rfl, fun _ => rfl, rfl, fun i _ => ⟨rfl, rfl, rfl⟩⟩, fun v hv => ⟨be_un hv, rfl, rfl, rfl⟩, fun k hk => ?_, rfl, Nat.min_le_left _ _⟩, Or.inr (Or.inl ⟨h2, rfl, z1, z2, z3, be_us, be_us⟩)⟩)
      show min (N 0 3) (k + 1) ≤ min (min (N 0 3) (N 20 w)) (k + 1) ∧ min (N 0 4) (k + 1) ≤ min (min (N 0 4) (N 20 w + 1)) (k + 1)
      omega
  · have h1 : N 19 w = 1 := by
      have := (j3.2.1 w hw).1
      omega
    exact be_stepC (N := N) (V := V) hCc h' hst hck hw h1 H
end
section
/-- steps before w has its turn -/
def be_dl (W clk w : Nat) : Nat := (4 * w + 4 * W - (clk + 1) % (4 * W)) % (4 * W)
theorem be_tick {W clk w0 : Nat} (h1 : 1 ≤ W) (h6 : W ≤ 6) (hw0 : (clk + 1) % 4 = 0 → w0 = (clk + 1) / 4 % W) : ∀ w, w < W → be_dl W (clk + 1) w ≤ 23 ∧ (w ≠ w0 → be_dl W (clk + 1) w < be_dl W clk w) := by
  intro w hw
  unfold be_dl
  have hW : W = 1 ∨ W = 2 ∨ W = 3 ∨ W = 4 ∨ W = 5 ∨ W = 6 := by omega
  rcases hW with rfl | rfl | rfl | rfl | rfl | rfl <;> omega
theorem be_dl_le {W clk w : Nat} (h1 : 1 ≤ W) (h6 : W ≤ 6) : be_dl W clk w ≤ 23 := by
  unfold be_dl
  have := Nat.mod_lt (4 * w + 4 * W - (clk + 1) % (4 * W)) (show 0 < 4 * W by omega)
  omega
/-- own steps before the next task is taken -/
def be_tau (x p : Nat) : Nat := if x = 0 then 0 else if x = 2 then 1 else 15 - p
theorem be_tau_le (x p : Nat) : be_tau x p ≤ 15 := by
  unfold be_tau
  split
  · omega
  · split <;> omega
def be_T (k nc nk : Nat) : Nat := (k + 1 - min nc (k + 1)) + (k + 1 - min nk (k + 1))
/-- k is the first that is not final: m steps are enough for it to become final -/
def be_Bud (W k m : Nat) (dl : Nat → Nat) (N : Nat → Nat → Nat) : Prop :=
  (∃ w, w < W ∧ N 19 w = 1 ∧ N 20 w = k ∧ be_rh N k ∧ (13 - N 22 w) * 24 + dl w ≤ m) ∨
  (N 9 k = 0 ∧ 400 + be_T k (N 0 3) (N 0 4) * 400 + be_tau (N 19 0) (N 22 0) * 24 + dl 0 ≤ m) ∨
  (N 9 k = 2 ∧ ¬ be_rh N k ∧ ∃ w, w < W ∧ N 19 w = 2 ∧ N 20 w = k ∧ N 21 w = N 10 k ∧ 7200 + dl w ≤ m) ∨
  (N 9 k = 2 ∧ ¬ be_rh N k ∧ N 0 4 ≤ k ∧ 7200 + be_T k (N 0 3) (N 0 4) * 400 + be_tau (N 19 0) (N 22 0) * 24 + dl 0 ≤ m) ∨
  (∃ w, w < W ∧ N 19 w = 1 ∧ N 20 w = k ∧ 14100 + (13 - N 22 w) * 24 + dl w ≤ m)
/-- all before k are final -/
def be_AF (k : Nat) (N : Nat → Nat → Nat) : Prop := ∀ j, j < k → N 9 j = 2 ∧ be_rh N j
theorem be_pos {cnt W c0 c1 a b w : Nat} {am nd : Int32} {s0 : Nat → Int32} {N : Nat → Nat → Nat} {V : Nat → Nat → Int32} (h : be_Inv cnt W c0 c1 a b am nd s0 N V) (hw : w < W) (hk : N 19 w = 1) : N 22 w ≤ 12 := by
  have := h.2.2.2.2.2.2.2.2 w hw hk
  rcases this with q | ⟨v1, _, q | q | q | q⟩
  · omega
  · omega
  · omega
  · omega
  · have := q.2.2.2.1
    omega
/-- reads below t hold as before -/
theorem be_rh_below {w t j cnt c0 c1 : Nat} {N N' : Nat → Nat → Nat} (hA : be_Act w t N N') (hj : j < t) (hjc : j < cnt) (h5 : be_J5 cnt c0 c1 (N 8) (N 12) (N 13) (N 14)) : be_rh N' j ↔ be_rh N j := by
  have lo := hA.1
  refine be_RH_eq (fun f hf => (lo f (by omega)).2.2.1) (fun f hf => by rw [(lo f (by omega)).1]) (fun f c hf => (lo f (by omega)).2.2.2.1 c) (lo j hj).2.2.2.2.1 (fun k hk => ?_) (fun k hk => ((h5 j hjc).2.2 k hk).2)
  have := (h5 j hjc).1
  exact (lo j hj).2.2.2.2.2 k (by omega)
/-- one turn: what is final stays so -/
theorem be_AF_step {cnt W c0 c1 a b w k : Nat} {am nd : Int32} {s0 : Nat → Int32} {N N' : Nat → Nat → Nat} {V : Nat → Nat → Int32} (h : be_Inv cnt W c0 c1 a b am nd s0 N V) (hw : w < W) (hT : be_Tr w N N') (hk : k ≤ cnt) (hF : be_AF k N) : be_AF k N' ∧ ∀ t, be_Act w t N N' → be_Way w t N N' → k ≤ t := by
  obtain ⟨⟨hB, hTT⟩, ⟨e0, e1, e2, es, hP⟩, j1, j2, j3, j4, j5, hD, hR⟩ := h
  have key : ∀ t, be_Way w t N N' → k ≤ t := by
    intro t hWay
    rcases Nat.lt_or_ge t k with q | q
    · exfalso
      have hf := hF t q
      rcases hWay with z | z | z | z | z
      · have := z.2.2.2.2.2.2.1
        omega
      · exact z.2.2.2.2.1 hf.2
      · have := ((j3.2.1 w hw).2.2 z.1).1
        rw [z.2.1] at this
        omega
      · have := ((j3.2.1 w hw).2.2 z.1).1
        rw [z.2.1] at this
        omega
      · have := ((j3.2.1 w hw).2.2 z.1).1
        rw [z.2.1] at this
        omega
    · exact q
  refine ⟨?_, fun t _ hWay => key t hWay⟩
  rcases hT with hN | ⟨t, hA, hWay⟩
  · obtain ⟨⟨q9, q10, q8, q7, q12, q13, q14, q15, q22, q06⟩, _, _⟩ := hN
    intro j hj
    have := hF j hj
    unfold be_rh
    rw [q9, q8, q7, q12, q13, q14, q15]
    exact this
  · have hkt := key t hWay
    intro j hj
    have hf := hF j hj
    exact ⟨by rw [(hA.1 j (by omega)).1]; exact hf.1, (be_rh_below hA (by omega) (by omega) j5).mpr hf.2⟩
theorem be_T_le (k nc nk : Nat) (hk : k < 8) : be_T k nc nk ≤ 16 := by
  unfold be_T
  omega
/-- one turn: the budget falls, or k becomes final -/
theorem be_Bud_step {cnt W c0 c1 a b w k m : Nat} {am nd : Int32} {s0 : Nat → Int32} {N N' : Nat → Nat → Nat} {V V' : Nat → Nat → Int32} {dl dl' : Nat → Nat} (hC : be_Cs cnt W c0 c1 a b) (h : be_Inv cnt W c0 c1 a b am nd s0 N V) (h2 : be_Inv cnt W c0 c1 a b am nd s0 N' V') (hw : w < W) (hT : be_Tr w N N') (hk : k < cnt) (hF : be_AF k N)
    (hd : ∀ v, v < W → dl' v ≤ 23 ∧ (v ≠ w → dl' v < dl v)) (hb : be_Bud W k m dl N) : (N' 9 k = 2 ∧ be_rh N' k) ∨ ∃ m', m' < m ∧ be_Bud W k m' dl' N' := by
  have hAF := be_AF_step h hw hT (by omega) hF
  have i1 := h
  have i2 := h2
  obtain ⟨⟨hB, hTT⟩, ⟨e0, e1, e2, es, hP⟩, j1, j2, j3, j4, j5, hD, hR⟩ := h
  obtain ⟨⟨hB', hTT'⟩, ⟨e0', e1', e2', es', hP'⟩, j1', j2', j3', j4', j5', hD', hR'⟩ := h2
  obtain ⟨hc1, hc8, hW1, hW6, hcc0, hcc1, hcne, ha, hbb, hab⟩ := hC
  have d0 := hd 0 (by omega)
  have tl := be_tau_le (N' 19 0) (N' 22 0)
  have Tl := be_T_le k (N' 0 3) (N' 0 4) (by omega)
  rcases hT with hN | ⟨t, hA, hWay⟩
  · obtain ⟨⟨q9, q10, q8, q7, q12, q13, q14, q15, q22, q06⟩, hv, hcs⟩ := hN
    right
    have erh : be_rh N' k ↔ be_rh N k := by
      unfold be_rh
      rw [q9, q8, q7, q12, q13, q14, q15]
    have tk01 : N 19 w = 0 ∨ N 19 w = 2 := by
      rcases hcs with z | z | z | z | z
      · exact Or.inl z.1
      · exact Or.inl z.1
      · exact Or.inl z.1
      · exact Or.inl z.1
      · exact Or.inr z.1
    rcases hb with ⟨v, hvW, b1, b2, b3, b4⟩ | ⟨b1, b2⟩ | ⟨b1, b2, v, hvW, b3, b4, b5, b6⟩ | ⟨b1, b2, b3, b4⟩ | ⟨v, hvW, b1, b2, b3⟩
    · have hvw : v ≠ w := fun e => by rw [e] at b1; omega
      have := (hd v hvW).2 hvw
      obtain ⟨x1, x2, x3⟩ := hv v hvw
      exact ⟨m - 1, by omega, Or.inl ⟨v, hvW, by rw [x1]; exact b1, by rw [x2]; exact b2, erh.mpr b3, by rw [q22]; omega⟩⟩
    · have hnc := (j1.2.2 k hk).2 b1
      have hT' : (be_T k (N' 0 3) (N' 0 4) < be_T k (N 0 3) (N 0 4)) ∨ (N 19 w = 2 ∧ N' 19 w = 0 ∧ be_T k (N' 0 3) (N' 0 4) = be_T k (N 0 3) (N 0 4)) := by
        unfold be_T
        rcases hcs with z | z | z | z | z
        · omega
        · left; omega
        · left; omega
        · left
          have : N 0 3 ≠ k := fun e => z.2.2.2.2.1 (by rw [e]; exact b1)
          omega
        · right
          rw [z.2.2.1, z.2.2.2.1]
          exact ⟨z.1, z.2.1, rfl⟩
      have tau' : N 19 w = 2 → N' 19 w = 0 → (w = 0 ∧ be_tau (N' 19 0) (N' 22 0) + 1 = be_tau (N 19 0) (N 22 0)) ∨ (dl' 0 < dl 0 ∧ be_tau (N' 19 0) (N' 22 0) = be_tau (N 19 0) (N 22 0)) := by
        intro z1 z2
        by_cases ew : w = 0
        · left
          subst ew
          rw [z1, z2]
          exact ⟨rfl, rfl⟩
        · right
          obtain ⟨x1, x2, x3⟩ := hv 0 (by omega)
          rw [x1, q22]
          exact ⟨d0.2 (by omega), rfl⟩
      refine ⟨m - 1, by omega, Or.inr (Or.inl ⟨by rw [q9]; exact b1, ?_⟩)⟩
      rcases hT' with z | ⟨z1, z2, z3⟩
      · omega
      · rcases tau' z1 z2 with y | y <;> omega
    · have hvw : v ≠ w := fun e => by
        rw [e] at b3 b4 b5
        rcases hcs with z | z | z | z | z
        · omega
        · omega
        · omega
        · omega
        · refine z.2.2.2.2 ?_
          rw [b4]
          exact ⟨b1, b5.symm, b2⟩
      have := (hd v hvW).2 hvw
      obtain ⟨x1, x2, x3⟩ := hv v hvw
      exact ⟨m - 1, by omega, Or.inr (Or.inr (Or.inl ⟨by rw [q9]; exact b1, fun z => b2 (erh.mp z), v, hvW, by rw [x1]; exact b3, by rw [x2]; exact b4, by rw [x3, q10]; exact b5, by omega⟩))⟩
    · have hT' : (N' 19 w = 2 ∧ N' 20 w = k ∧ N' 21 w = N' 10 k ∧ 1 ≤ be_T k (N 0 3) (N 0 4)) ∨ (N' 0 4 ≤ k ∧ be_T k (N' 0 3) (N' 0 4) < be_T k (N 0 3) (N 0 4)) ∨ (N 19 w = 2 ∧ N' 19 w = 0 ∧ N' 0 4 ≤ k ∧ be_T k (N' 0 3) (N' 0 4) = be_T k (N 0 3) (N 0 4)) := by
        unfold be_T
        rcases hcs with z | z | z | z | z
        · omega
        · right; left
          have : N 0 4 ≠ k := fun e => z.2.2.2.2.1 (by rw [e]; exact b1)
          omega
        · by_cases e : N 0 4 = k
          · left
            rw [z.2.2.1, z.2.2.2.1, e, q10]
            exact ⟨z.2.1, rfl, rfl, by omega⟩
          · right; left; omega
        · right; left; omega
        · right; right
          rw [z.2.2.1, z.2.2.2.1]
          exact ⟨z.1, z.2.1, b3, rfl⟩
      have tau' : N 19 w = 2 → N' 19 w = 0 → (w = 0 ∧ be_tau (N' 19 0) (N' 22 0) + 1 = be_tau (N 19 0) (N 22 0)) ∨ (dl' 0 < dl 0 ∧ be_tau (N' 19 0) (N' 22 0) = be_tau (N 19 0) (N 22 0)) := by
        intro z1 z2
        by_cases ew : w = 0
        · left
          subst ew
          rw [z1, z2]
          exact ⟨rfl, rfl⟩
        · right
          obtain ⟨x1, x2, x3⟩ := hv 0 (by omega)
          rw [x1, q22]
          exact ⟨d0.2 (by omega), rfl⟩
      have dw := hd w hw
      rcases hT' with ⟨z1, z2, z3, z4⟩ | ⟨z1, z2⟩ | ⟨z1, z2, z3, z4⟩
      · exact ⟨m - 1, by omega, Or.inr (Or.inr (Or.inl ⟨by rw [q9]; exact b1, fun z => b2 (erh.mp z), w, hw, z1, z2, z3, by omega⟩))⟩
      · exact ⟨m - 1, by omega, Or.inr (Or.inr (Or.inr (Or.inl ⟨by rw [q9]; exact b1, fun z => b2 (erh.mp z), z1, by omega⟩)))⟩
      · refine ⟨m - 1, by omega, Or.inr (Or.inr (Or.inr (Or.inl ⟨by rw [q9]; exact b1, fun z => b2 (erh.mp z), z3, ?_⟩)))⟩
        rcases tau' z1 z2 with y | y <;> omega
    · have hvw : v ≠ w := fun e => by rw [e] at b1; omega
      have := (hd v hvW).2 hvw
      obtain ⟨x1, x2, x3⟩ := hv v hvw
      exact ⟨m - 1, by omega, Or.inr (Or.inr (Or.inr (Or.inr ⟨v, hvW, by rw [x1]; exact b1, by rw [x2]; exact b2, by rw [q22]; omega⟩)))⟩
  · have hkt := hAF.2 t hA hWay
    have dw := hd w hw
    have tkw' := (j3'.2.1 w hw).1
    rcases Nat.lt_or_ge k t with hlt | hge
    · right
      have erh := be_rh_below hA hlt hk j5
      have lo := hA.1 k hlt
      have hc := hA.2.2.1 k hlt
      have hv := hA.2.1
      have hnk := hA.2.2.2.2
      have hT' : be_T k (N' 0 3) (N' 0 4) ≤ be_T k (N 0 3) (N 0 4) := by
        unfold be_T
        omega
      have tau' : N 19 w ≠ 0 → (w = 0 ∧ be_tau (N' 19 0) (N' 22 0) + 1 ≤ be_tau (N 19 0) (N 22 0)) ∨ (dl' 0 < dl 0 ∧ be_tau (N' 19 0) (N' 22 0) = be_tau (N 19 0) (N 22 0)) := by
        intro z0
        by_cases ew : w = 0
        · left
          subst ew
          refine ⟨rfl, ?_⟩
          rcases hWay with z | z | z | z | z
          · omega
          · rw [z.1, z.2.2.2.2.2.1]
            exact Nat.le_refl 1
          · have hp := be_pos i1 hw z.1
            rw [z.1, z.2.2.1]
            unfold be_tau
            simp
            omega
          · have hp := be_pos i1 hw z.1
            rw [z.1, z.2.2.1]
            unfold be_tau
            simp
            omega
          · have hp := be_pos i1 hw z.1
            have hne := z.2.2.1
            have : N' 19 0 = 0 ∨ N' 19 0 = 2 := by omega
            rw [z.1]
            rcases this with q | q <;> rw [q] <;> unfold be_tau <;> simp <;> omega
        · right
          obtain ⟨x1, x2, x3, x4⟩ := hv 0 (by omega)
          rw [x1, x4]
          exact ⟨d0.2 (by omega), rfl⟩
      have own : ∀ v, v < W → N 19 v = 1 → N 20 v = k → v ≠ w := by
        intro v hvW b1 b2 e
        rw [e] at b1 b2
        rcases hWay with z | z | z | z | z <;> omega
      rcases hb with ⟨v, hvW, b1, b2, b3, b4⟩ | ⟨b1, b2⟩ | ⟨b1, b2, v, hvW, b3, b4, b5, b6⟩ | ⟨b1, b2, b3, b4⟩ | ⟨v, hvW, b1, b2, b3⟩
      · have hvw := own v hvW b1 b2
        have := (hd v hvW).2 hvw
        obtain ⟨x1, x2, x3, x4⟩ := hv v hvw
        exact ⟨m - 1, by omega, Or.inl ⟨v, hvW, by rw [x1]; exact b1, by rw [x2]; exact b2, erh.mpr b3, by rw [x4]; omega⟩⟩
      · have hnc := (j1.2.2 k hk).2 b1
        have z0 : N 19 w ≠ 0 := by
          rcases hWay with z | z | z | z | z <;> omega
        refine ⟨m - 1, by omega, Or.inr (Or.inl ⟨by rw [lo.1]; exact b1, ?_⟩)⟩
        rcases tau' z0 with y | y <;> omega
      · have hvw : v ≠ w := fun e => by
          rw [e] at b3 b4
          rcases hWay with z | z | z | z | z <;> omega
        have := (hd v hvW).2 hvw
        obtain ⟨x1, x2, x3, x4⟩ := hv v hvw
        exact ⟨m - 1, by omega, Or.inr (Or.inr (Or.inl ⟨by rw [lo.1]; exact b1, fun z => b2 (erh.mp z), v, hvW, by rw [x1]; exact b3, by rw [x2]; exact b4, by rw [x3, lo.2.1]; exact b5, by omega⟩))⟩
      · have z0 : N 19 w ≠ 0 := by
          rcases hWay with z | z | z | z | z <;> omega
        refine ⟨m - 1, by omega, Or.inr (Or.inr (Or.inr (Or.inl ⟨by rw [lo.1]; exact b1, fun z => b2 (erh.mp z), by omega, ?_⟩)))⟩
        rcases tau' z0 with y | y <;> omega
      · have hvw := own v hvW b1 b2
        have := (hd v hvW).2 hvw
        obtain ⟨x1, x2, x3, x4⟩ := hv v hvw
        exact ⟨m - 1, by omega, Or.inr (Or.inr (Or.inr (Or.inr ⟨v, hvW, by rw [x1]; exact b1, by rw [x2]; exact b2, by rw [x4]; omega⟩)))⟩
    · have ekt : t = k := by omega
      subst ekt
      have car : ∀ v, v < W → N 19 v = 1 → N 20 v = t → N 9 t = 1 := by
        intro v hvW b1 b2
        have := ((j3.2.1 v hvW).2.2 b1).1
        rw [b2] at this
        exact this
      rcases hWay with z | z | z | z | z
      · obtain ⟨z1, z2, z2', z3, z4, z5, z6, z7, z8, z9, z10, z11⟩ := z
        right
        have hm : 400 ≤ m := by
          rcases hb with ⟨v, hvW, b1, b2, b3, b4⟩ | ⟨b1, b2⟩ | ⟨b1, b2, v, hvW, b3, b4, b5, b6⟩ | ⟨b1, b2, b3, b4⟩ | ⟨v, hvW, b1, b2, b3⟩
          · have := car v hvW b1 b2; omega
          · omega
          · omega
          · omega
          · omega
        refine ⟨399, by omega, Or.inl ⟨w, hw, z9, z10, fun i hi => ?_, by rw [z11]; omega⟩⟩
        rw [z8] at hi
        omega
      · obtain ⟨z1, z2, z3, z4, z5, z6, z7⟩ := z
        right
        have hm : 7200 ≤ m := by
          rcases hb with ⟨v, hvW, b1, b2, b3, b4⟩ | ⟨b1, b2⟩ | ⟨b1, b2, v, hvW, b3, b4, b5, b6⟩ | ⟨b1, b2, b3, b4⟩ | ⟨v, hvW, b1, b2, b3⟩
          · have := car v hvW b1 b2; omega
          · omega
          · omega
          · omega
          · omega
        exact ⟨7199, by omega, Or.inr (Or.inl ⟨z7, by omega⟩)⟩
      · obtain ⟨z1, z2, z3, z4, z5, z6, z7, z8⟩ := z
        right
        have hs := car w hw z1 z2
        rcases hb with ⟨v, hvW, b1, b2, b3, b4⟩ | ⟨b1, b2⟩ | ⟨b1, b2, v, hvW, b3, b4, b5, b6⟩ | ⟨b1, b2, b3, b4⟩ | ⟨v, hvW, b1, b2, b3⟩
        · have : v = w := j3.2.2 v w hvW hw b1 z1 (by rw [b2, z2])
          subst this
          exact ⟨m - 1, by omega, Or.inl ⟨v, hvW, z3, z4, z8 b3, by omega⟩⟩
        · omega
        · omega
        · omega
        · have : v = w := j3.2.2 v w hvW hw b1 z1 (by rw [b2, z2])
          subst this
          exact ⟨m - 1, by omega, Or.inr (Or.inr (Or.inr (Or.inr ⟨v, hvW, z3, z4, by omega⟩)))⟩
      · obtain ⟨z1, z2, z3, z4, f, hf, hf2⟩ := z
        exact absurd (hF f (by omega)).1 hf2
      · obtain ⟨z1, z2, z3, z4, z5⟩ := z
        have hs := car w hw z1 z2
        by_cases hr : be_rh N' t
        · exact Or.inl ⟨z4, hr⟩
        · right
          have hm : 14100 ≤ m := by
            rcases hb with ⟨v, hvW, b1, b2, b3, b4⟩ | ⟨b1, b2⟩ | ⟨b1, b2, v, hvW, b3, b4, b5, b6⟩ | ⟨b1, b2, b3, b4⟩ | ⟨v, hvW, b1, b2, b3⟩
            · exact absurd (z5 b3) hr
            · omega
            · omega
            · omega
            · omega
          refine ⟨14099, by omega, ?_⟩
          rcases j4' t hk z4 with q | q | ⟨v, hvW, q1, q2, q3⟩
          · exact absurd q hr
          · exact Or.inr (Or.inr (Or.inr (Or.inl ⟨z4, hr, q, by omega⟩)))
          · have := (hd v hvW).1
            exact Or.inr (Or.inr (Or.inl ⟨z4, hr, v, hvW, q1, q2, q3, by omega⟩))
/-- a budget for the first that is not final -/
theorem be_Bud_new {cnt W c0 c1 a b k : Nat} {am nd : Int32} {s0 : Nat → Int32} {N : Nat → Nat → Nat} {V : Nat → Nat → Int32} {dl : Nat → Nat} (hC : be_Cs cnt W c0 c1 a b) (h : be_Inv cnt W c0 c1 a b am nd s0 N V) (hk : k < cnt) (hF : be_AF k N) (hd : ∀ v, v < W → dl v ≤ 23) : (N 9 k = 2 ∧ be_rh N k) ∨ be_Bud W k 14499 dl N := by
  obtain ⟨⟨hB, hTT⟩, ⟨e0, e1, e2, es, hP⟩, j1, j2, j3, j4, j5, hD, hR⟩ := h
  obtain ⟨hc1, hc8, hW1, hW6, hcc0, hcc1, hcne, ha, hbb, hab⟩ := hC
  have d0 := hd 0 (by omega)
  have tl := be_tau_le (N 19 0) (N 22 0)
  have Tl := be_T_le k (N 0 3) (N 0 4) (by omega)
  have hs := (j1.2.2 k hk).1
  have hcs : N 9 k = 0 ∨ N 9 k = 1 ∨ N 9 k = 2 ∨ N 9 k = 3 := by omega
  rcases hcs with z | z | z | z
  · exact Or.inr (Or.inr (Or.inl ⟨z, by omega⟩))
  · obtain ⟨w, hw, q1, q2⟩ := j3.1 k hk z
    have := hd w hw
    exact Or.inr (Or.inr (Or.inr (Or.inr (Or.inr ⟨w, hw, q1, q2, by omega⟩))))
  · by_cases hr : be_rh N k
    · exact Or.inl ⟨z, hr⟩
    · right
      rcases j4 k hk z with q | q | ⟨v, hvW, q1, q2, q3⟩
      · exact absurd q hr
      · exact Or.inr (Or.inr (Or.inr (Or.inl ⟨z, hr, q, by omega⟩)))
      · have := hd v hvW
        exact Or.inr (Or.inr (Or.inl ⟨z, hr, v, hvW, q1, q2, q3, by omega⟩))
  · obtain ⟨f, hf, hb⟩ := j2.1 k hk z
    have := (j2.2.1 f k hb).2.2.2
    exact absurd (hF f hf).1 this
end
section
/-- all are final: m steps are enough for the workers to be idle -/
def be_BF (cnt W m : Nat) (dl : Nat → Nat) (N : Nat → Nat → Nat) : Prop :=
  (24 + ((cnt - N 0 3) + (cnt - N 0 4)) * 400 + be_tau (N 19 0) (N 22 0) * 24 + dl 0 ≤ m) ∨ (N 0 3 = cnt ∧ N 0 4 = cnt ∧ ∀ w, w < W → N 19 w ≠ 0 → dl w < m)
def be_QB (cnt W X : Nat) (dl : Nat → Nat) (N : Nat → Nat → Nat) : Prop :=
  (∃ k m, k < cnt ∧ be_AF k N ∧ be_Bud W k m dl N ∧ (cnt - k - 1) * 14500 + m + 7000 ≤ X) ∨ (be_AF cnt N ∧ be_BF cnt W X dl N)
theorem be_QB_new {cnt W c0 c1 a b : Nat} {am nd : Int32} {s0 : Nat → Int32} {N : Nat → Nat → Nat} {V : Nat → Nat → Int32} {dl : Nat → Nat} (hC : be_Cs cnt W c0 c1 a b) (h : be_Inv cnt W c0 c1 a b am nd s0 N V) (hd : ∀ v, v < W → dl v ≤ 23) :
    ∀ d k, k + d = cnt → be_AF k N → be_QB cnt W (d * 14500 + 6999) dl N := by
  intro d
  induction d with
  | zero =>
    intro k hk hF
    have : k = cnt := by omega
    subst this
    have d0 := hd 0 (by have := hC.2.2.1; omega)
    have tl := be_tau_le (N 19 0) (N 22 0)
    have hc8 := hC.2.1
    exact Or.inr ⟨hF, Or.inl (by omega)⟩
  | succ d ih =>
    intro k hk hF
    rcases be_Bud_new hC h (by omega) hF hd with q | q
    · have hF' : be_AF (k + 1) N := by
        intro j hj
        rcases Nat.lt_or_ge j k with z | z
        · exact hF j z
        · have : j = k := by omega
          subst this
          exact q
      rcases ih (k + 1) (by omega) hF' with ⟨k', m, z1, z2, z3, z4⟩ | ⟨z1, z2⟩
      · exact Or.inl ⟨k', m, z1, z2, z3, by omega⟩
      · refine Or.inr ⟨z1, ?_⟩
        rcases z2 with y | ⟨y1, y2, y3⟩
        · exact Or.inl (by omega)
        · exact Or.inr ⟨y1, y2, fun w hw hz => by have := y3 w hw hz; omega⟩
    · refine Or.inl ⟨k, 14499, by omega, hF, q, ?_⟩
      have : cnt - k - 1 = d := by omega
      rw [this]
      omega
theorem be_BF_step {cnt W c0 c1 a b w m : Nat} {am nd : Int32} {s0 : Nat → Int32} {N N' : Nat → Nat → Nat} {V : Nat → Nat → Int32} {dl dl' : Nat → Nat} (hC : be_Cs cnt W c0 c1 a b) (h : be_Inv cnt W c0 c1 a b am nd s0 N V) (hw : w < W) (hT : be_Tr w N N') (hF : be_AF cnt N) (hn : ¬ be_AD N)
    (hd0 : ∀ v, v < W → dl v ≤ 23) (hd : ∀ v, v < W → dl' v ≤ 23 ∧ (v ≠ w → dl' v < dl v)) (hb : be_BF cnt W m dl N) : ∃ m', m' < m ∧ be_BF cnt W m' dl' N' := by
  have hAF := be_AF_step h hw hT (Nat.le_refl _) hF
  have i1 := h
  obtain ⟨⟨hB, hTT⟩, ⟨e0, e1, e2, es, hP⟩, j1, j2, j3, j4, j5, hD, hR⟩ := h
  obtain ⟨hc1, hc8, hW1, hW6, hcc0, hcc1, hcne, ha, hbb, hab⟩ := hC
  have d0 := hd 0 (by omega)
  have d00 := hd0 0 (by omega)
  have tl := be_tau_le (N' 19 0) (N' 22 0)
  have b3 := j1.1
  have b4 := j1.2.1
  rcases hT with hN | ⟨t, hA, hWay⟩
  · obtain ⟨⟨q9, q10, q8, q7, q12, q13, q14, q15, q22, q06⟩, hv, hcs⟩ := hN
    have caseB : N 0 3 = cnt → N 0 4 = cnt → (∀ v, v < W → N 19 v ≠ 0 → dl v < m) → ∃ m', m' < m ∧ be_BF cnt W m' dl' N' := by
      intro x1 x2 x3
      have hm : 0 < m := by
        rcases Nat.eq_zero_or_pos m with q | q
        · exfalso
          refine hn ⟨by omega, by omega, fun v hv => ?_⟩
          rw [e2] at hv
          rcases Nat.eq_zero_or_pos (N 19 v) with y | y
          · exact y
          · have := x3 v hv (by omega)
            omega
        · exact q
      have cs : N' 19 w = 0 ∧ N' 0 3 = N 0 3 ∧ N' 0 4 = N 0 4 := by
        rcases hcs with z | z | z | z | z
        · exact ⟨z.2.1, z.2.2.2.2.1, z.2.2.2.2.2⟩
        · omega
        · omega
        · omega
        · exact ⟨z.2.1, z.2.2.1, z.2.2.2.1⟩
      refine ⟨m - 1, by omega, Or.inr ⟨by omega, by omega, fun v hvW hz => ?_⟩⟩
      have hvw : v ≠ w := fun e => hz (by rw [e]; exact cs.1)
      obtain ⟨y1, y2, y3⟩ := hv v hvw
      rw [y1] at hz
      have := x3 v hvW hz
      have := (hd v hvW).2 hvw
      omega
    rcases hb with hb | ⟨x1, x2, x3⟩
    · by_cases hT0 : N 0 3 = cnt ∧ N 0 4 = cnt
      · exact caseB hT0.1 hT0.2 (fun v hvW _ => by have := hd0 v hvW; omega)
      · rcases hcs with z | z | z | z | z
        · omega
        · exact ⟨m - 1, by omega, Or.inl (by omega)⟩
        · exact ⟨m - 1, by omega, Or.inl (by omega)⟩
        · exact ⟨m - 1, by omega, Or.inl (by omega)⟩
        · refine ⟨m - 1, by omega, Or.inl ?_⟩
          by_cases ew : w = 0
          · subst ew
            have t1 : be_tau (N 19 0) (N 22 0) = 1 := by rw [z.1]; rfl
            have t0 : be_tau (N' 19 0) (N' 22 0) = 0 := by rw [z.2.1]; rfl
            omega
          · obtain ⟨y1, y2, y3⟩ := hv 0 (by omega)
            have t0 : be_tau (N' 19 0) (N' 22 0) = be_tau (N 19 0) (N 22 0) := by rw [y1, q22]
            have := d0.2 (by omega)
            omega
    · exact caseB x1 x2 x3
  · have hct := hAF.2 t hA hWay
    exfalso
    rcases hWay with z | z | z | z | z
    · omega
    · have := (j3.2.1 w hw).2.1 (by omega)
      omega
    · have := (j3.2.1 w hw).2.1 (by omega)
      omega
    · have := (j3.2.1 w hw).2.1 (by omega)
      omega
    · have := (j3.2.1 w hw).2.1 (by omega)
      omega
theorem be_QB_step {cnt W c0 c1 a b w X : Nat} {am nd : Int32} {s0 : Nat → Int32} {N N' : Nat → Nat → Nat} {V V' : Nat → Nat → Int32} {dl dl' : Nat → Nat} (hC : be_Cs cnt W c0 c1 a b) (h : be_Inv cnt W c0 c1 a b am nd s0 N V) (h2 : be_Inv cnt W c0 c1 a b am nd s0 N' V') (hw : w < W) (hT : be_Tr w N N') (hn : ¬ be_AD N)
    (hd0 : ∀ v, v < W → dl v ≤ 23) (hd : ∀ v, v < W → dl' v ≤ 23 ∧ (v ≠ w → dl' v < dl v)) (hb : be_QB cnt W X dl N) : ∃ X', X' < X ∧ be_QB cnt W X' dl' N' := by
  rcases hb with ⟨k, m, z1, z2, z3, z4⟩ | ⟨z1, z2⟩
  · have hF' := (be_AF_step h hw hT (by omega) z2).1
    rcases be_Bud_step hC h h2 hw hT z1 z2 hd z3 with q | ⟨m', q1, q2⟩
    · have hF2 : be_AF (k + 1) N' := by
        intro j hj
        rcases Nat.lt_or_ge j k with z | z
        · exact hF' j z
        · have : j = k := by omega
          subst this
          exact q
      refine ⟨(cnt - k - 1) * 14500 + 6999, by omega, be_QB_new hC h2 (fun v hv => (hd v hv).1) (cnt - k - 1) (k + 1) (by omega) hF2⟩
    · exact ⟨(cnt - k - 1) * 14500 + m' + 7000, by omega, Or.inl ⟨k, m', z1, hF', q2, Nat.le_refl _⟩⟩
  · have hF' := (be_AF_step h hw hT (Nat.le_refl _) z1).1
    obtain ⟨m', q1, q2⟩ := be_BF_step hC h hw hT z1 hn hd0 hd z2
    exact ⟨m', q1, Or.inr ⟨hF', q2⟩⟩
theorem be_AD_AF {cnt W c0 c1 a b : Nat} {am nd : Int32} {s0 : Nat → Int32} {N : Nat → Nat → Nat} {V : Nat → Nat → Int32} (h : be_Inv cnt W c0 c1 a b am nd s0 N V) (hA : be_AD N) : be_AF cnt N := by
  obtain ⟨⟨hB, hTT⟩, ⟨e0, e1, e2, es, hP⟩, j1, j2, j3, j4, j5, hD, hR⟩ := h
  obtain ⟨a1, a2, a3⟩ := hA
  rw [e0] at a1 a2
  rw [e2] at a3
  have hst : ∀ n j, j < n → j < cnt → N 9 j = 2 := by
    intro n
    induction n with
    | zero => intro j hj; omega
    | succ n ih =>
      intro j hj hjc
      have hs := (j1.2.2 j hjc).1
      have hcs : N 9 j = 0 ∨ N 9 j = 1 ∨ N 9 j = 2 ∨ N 9 j = 3 := by omega
      rcases hcs with z | z | z | z
      · have := (j1.2.2 j hjc).2 z
        omega
      · obtain ⟨w, hw, q1, q2⟩ := j3.1 j hjc z
        have := a3 w hw
        omega
      · exact z
      · obtain ⟨f, hf, hb⟩ := j2.1 j hjc z
        have h4 := (j2.2.1 f j hb).2.2.2
        exact absurd (ih f (by omega) (by omega)) h4
  intro j hj
  have hz := hst (j + 1) j (by omega) hj
  refine ⟨hz, ?_⟩
  rcases j4 j hj hz with q | q | ⟨w, hw, q1, q2, q3⟩
  · exact q
  · omega
  · have := a3 w hw
    omega
/-- a worker is chosen: the clock alone changes -/
theorem be_Inv_tick {cnt W c0 c1 a b : Nat} {am nd x : Int32} {s0 : Nat → Int32} {N : Nat → Nat → Nat} {V : Nat → Nat → Int32} (h : be_Inv cnt W c0 c1 a b am nd s0 N V) (hck : N 0 6 < 1000000) : be_Inv cnt W c0 c1 a b am nd s0 (be_up N 0 6 (N 0 6 + 1)) (be_vs V 0 (fun _ => x)) := by
  obtain ⟨⟨hB, hTT⟩, ⟨e0, e1, e2, es, hP⟩, j1, j2, j3, j4, j5, hD, hR⟩ := h
  exact ⟨⟨be_B_up hB (by omega), fun j => Nat.le_succ_of_le (hTT j)⟩, ⟨e0, e1, e2, es, hP⟩, j1, j2, j3, j4, j5, hD, hR⟩
end
section
/-- how many have not failed -/
def be_nf (f : Nat → Nat) : Nat → Nat
  | 0 => 0
  | t + 1 => be_nf f t + (if f t = 0 then 1 else 0)
theorem be_nf_le (f : Nat → Nat) : ∀ t, be_nf f t ≤ t := by
  intro t
  induction t with
  | zero => exact Nat.le_refl 0
  | succ t ih =>
    unfold be_nf
    split <;> omega
theorem be_run71 {post : Int32 → St2 → Prop} {N : Nat → Nat → Nat} {V : Nat → Nat → Int32} (hB : ∀ f j, N f j < 1048576) (hc : N 0 0 ≤ 8) (H : post (nI (be_nf (N 16) (N 0 0))) (be_cn N V)) : ∃ fu, wX_run_71 post (nI (N 0 0)) (nI (N 0 1)) (nI (N 0 2)) (nI (N 0 3)) (nI (N 0 4)) (V 0 5) (nI (N 0 6)) (nI (N 0 7)) (V 1) (fun j => nI (N 2 j)) (fun j => nI (N 3 j)) (fun j => nI (N 4 j)) (V 5) (V 6) (fun j => nI (N 7 j)) (fun j => nI (N 8 j)) (fun j => nI (N 9 j)) (fun j => nI (N 10 j)) (fun j => nI (N 11 j)) (fun j => nI (N 12 j)) (fun j => nI (N 13 j)) (fun j => be_fr (N 14 j)) (fun j => nI (N 15 j)) (fun j => nI (N 16 j)) (fun j => nI (N 17 j)) (V 18) (fun j => nI (N 19 j)) (fun j => nI (N 20 j)) (fun j => nI (N 21 j)) (fun j => nI (N 22 j)) (V 23) (fun j => nI (N 24 j)) (V 25) (fun j => nI (N 26 j)) fu 0 0 := by
  refine pk_loop (σ := Unit) (fun n i _ => wX_run_71 post (nI (N 0 0)) (nI (N 0 1)) (nI (N 0 2)) (nI (N 0 3)) (nI (N 0 4)) (V 0 5) (nI (N 0 6)) (nI (N 0 7)) (V 1) (fun j => nI (N 2 j)) (fun j => nI (N 3 j)) (fun j => nI (N 4 j)) (V 5) (V 6) (fun j => nI (N 7 j)) (fun j => nI (N 8 j)) (fun j => nI (N 9 j)) (fun j => nI (N 10 j)) (fun j => nI (N 11 j)) (fun j => nI (N 12 j)) (fun j => nI (N 13 j)) (fun j => be_fr (N 14 j)) (fun j => nI (N 15 j)) (fun j => nI (N 16 j)) (fun j => nI (N 17 j)) (V 18) (fun j => nI (N 19 j)) (fun j => nI (N 20 j)) (fun j => nI (N 21 j)) (fun j => nI (N 22 j)) (V 23) (fun j => nI (N 24 j)) (V 25) (fun j => nI (N 26 j)) n (nI (be_nf (N 16) i)) (nI i)) (fun _ _ => True) (N 0 0) 0 () (by omega) trivial ?_ ?_
  · intro n _ _
    exact pk_le (N 0 0) (N 0 0) (fun _ => H) (fun h => absurd h (by omega)) rfl rfl (by omega) (by omega)
  · intro n i _ hi _ hk
    have b16 := hB 16 i
    have hle := be_nf_le (N 16) i
    have hk' := hk () trivial
    refine pk_le (N 0 0) i (fun h => absurd h (by omega)) (fun _ => ⟨pk_in i 8 (by omega), pk_eq (N 16 i) 0 (fun h => ?_) (fun h => ?_) (by rw [nI_clamp (by omega)]) rfl (by omega) (by omega)⟩) rfl rfl (by omega) (by omega)
    · have e : be_nf (N 16) (i + 1) = be_nf (N 16) i + 1 := by
        show be_nf (N 16) i + (if N 16 i = 0 then 1 else 0) = be_nf (N 16) i + 1
        rw [if_pos h]
      rw [e] at hk'
      exact nm_r (nI_1 _) (nm_r (nI_1 i) hk')
    · have e : be_nf (N 16) (i + 1) = be_nf (N 16) i := by
        show be_nf (N 16) i + (if N 16 i = 0 then 1 else 0) = be_nf (N 16) i
        rw [if_neg h]
        rfl
      rw [e] at hk'
      exact nm_r (Int32.add_zero _) (nm_r (nI_1 i) hk')
/-- what a cell holds before t -/
def be_vb (c : Nat) (s0 vv : Nat → Int32) (wr : Nat → Nat) (t : Nat) : Int32 := if be_nw c wr t = 0 then s0 c else vv (8 * c + (be_nw c wr t - 1))
theorem be_commit {post : St2 → Prop} {N : Nat → Nat → Nat} {V : Nat → Nat → Int32} (hB : ∀ f j, N f j < 1048576) (hc : N 0 0 ≤ 8)
    (H : ∀ g : Nat → Int32, (∀ c, c < 16 → g c = be_vb c (V 1) (V 6) (N 8) (N 0 0)) → post (be_cn (be_up N 0 1 2) (be_vs V 1 g))) : wpX_commit post (be_cn N V) := by
  unfold wpX_commit be_cn
  dsimp only
  refine pk_loop (σ := Nat → Int32) (fun n i g => wX_commit_7 post (nI ((be_up N 0 1 2) 0 0)) (nI ((be_up N 0 1 2) 0 1)) (nI ((be_up N 0 1 2) 0 2)) (nI ((be_up N 0 1 2) 0 3)) (nI ((be_up N 0 1 2) 0 4)) (V 0 5) (nI ((be_up N 0 1 2) 0 6)) (nI ((be_up N 0 1 2) 0 7)) n (nI i) ((be_vs V 1 g) 1) (fun j => nI (N 2 j)) (fun j => nI (N 3 j)) (fun j => nI (N 4 j)) ((be_vs V 1 g) 5) ((be_vs V 1 g) 6) (fun j => nI (N 7 j)) (fun j => nI (N 8 j)) (fun j => nI (N 9 j)) (fun j => nI (N 10 j)) (fun j => nI (N 11 j)) (fun j => nI (N 12 j)) (fun j => nI (N 13 j)) (fun j => be_fr (N 14 j)) (fun j => nI (N 15 j)) (fun j => nI (N 16 j)) (fun j => nI (N 17 j)) ((be_vs V 1 g) 18) (fun j => nI (N 19 j)) (fun j => nI (N 20 j)) (fun j => nI (N 21 j)) (fun j => nI (N 22 j)) ((be_vs V 1 g) 23) (fun j => nI (N 24 j)) ((be_vs V 1 g) 25) (fun j => nI (N 26 j))) (fun i g => (∀ c, c < i → g c = be_vb c (V 1) (V 6) (N 8) (N 0 0)) ∧ ∀ c, i ≤ c → g c = V 1 c) 16 0 (V 1) (by omega) ⟨fun c hc => absurd hc (by omega), fun c _ => rfl⟩ ?_ ?_
  · intro n g hg
    exact pk_le 16 16 (fun _ => H g hg.1) (fun h => absurd h (by omega))
  · intro n i g hi hg hk
    refine pk_le 16 i (fun h => absurd h (by omega)) (fun _ => ?_)
    have hle := be_nw_le i (N 8) (N 0 0)
    have hB2 : ∀ f j, be_up N 0 1 2 f j < 1048576 := be_B_up hB (by omega)
    refine be_newest (N := be_up N 0 1 2) (V := be_vs V 1 g) hi hc hB2 ?_
    show (be_fr (be_nw i (N 8) (N 0 0)) < 0 → _) ∧ (¬ be_fr (be_nw i (N 8) (N 0 0)) < 0 → _)
    by_cases h0 : be_nw i (N 8) (N 0 0) = 0
    · rw [h0]
      refine br_t be_fr_neg (nm_r (nI_1 i) (hk g ⟨fun c hc => ?_, fun c hc => hg.2 c (by omega)⟩))
      rcases Nat.lt_or_ge c i with q | q
      · exact hg.1 c q
      · have : c = i := by omega
        subst this
        rw [hg.2 c (by omega)]
        unfold be_vb
        rw [if_pos h0]
    · refine br_f (be_fr_nneg h0 (by omega)) ?_
      rw [show be_fr (be_nw i (be_up N 0 1 2 8) (be_up N 0 1 2 0 0)) = nI (be_nw i (N 8) (N 0 0) - 1) from be_fr_pos h0]
      refine be_vat ⟨pk_in (8 * i + (be_nw i (N 8) (N 0 0) - 1)) 128 (by omega), pk_in i 16 hi, be_sv i (V 6 (8 * i + (be_nw i (N 8) (N 0 0) - 1))) (nm_r (nI_1 i) (hk (upd g i (V 6 (8 * i + (be_nw i (N 8) (N 0 0) - 1)))) ⟨fun c hc => ?_, fun c hc => ?_⟩)) rfl (by rw [nI_clamp (by omega)]; rfl)⟩
      · rcases Nat.lt_or_ge c i with q | q
        · rw [pk_un (by omega)]
          exact hg.1 c q
        · have : c = i := by omega
          subst this
          rw [pk_us]
          unfold be_vb
          rw [if_neg h0]
      · rw [pk_un (by omega)]
        exact hg.2 c (by omega)
theorem be_runL {cnt W c0 c1 a b : Nat} {am nd : Int32} {s0 : Nat → Int32} {post : Int32 → St2 → Prop} (hC : be_Cs cnt W c0 c1 a b)
    (H : ∀ N' V', be_Inv cnt W c0 c1 a b am nd s0 N' V' → be_AF cnt N' → wX_run_63 post (nI (N' 0 0)) (nI (N' 0 1)) (nI (N' 0 2)) (nI (N' 0 3)) (nI (N' 0 4)) (V' 0 5) (nI (N' 0 6)) (nI (N' 0 7)) (V' 1) (fun j => nI (N' 2 j)) (fun j => nI (N' 3 j)) (fun j => nI (N' 4 j)) (V' 5) (V' 6) (fun j => nI (N' 7 j)) (fun j => nI (N' 8 j)) (fun j => nI (N' 9 j)) (fun j => nI (N' 10 j)) (fun j => nI (N' 11 j)) (fun j => nI (N' 12 j)) (fun j => nI (N' 13 j)) (fun j => be_fr (N' 14 j)) (fun j => nI (N' 15 j)) (fun j => nI (N' 16 j)) (fun j => nI (N' 17 j)) (V' 18) (fun j => nI (N' 19 j)) (fun j => nI (N' 20 j)) (fun j => nI (N' 21 j)) (fun j => nI (N' 22 j)) (V' 23) (fun j => nI (N' 24 j)) (V' 25) (fun j => nI (N' 26 j))) (N : Nat → Nat → Nat) (V : Nat → Nat → Int32) (h : be_Inv cnt W c0 c1 a b am nd s0 N V) (hck : N 0 6 ≤ 1000) : ∃ fu, wX_run_34 post fu 0 (nI (N 0 0)) (nI (N 0 1)) (nI (N 0 2)) (nI (N 0 3)) (nI (N 0 4)) (V 0 5) (nI (N 0 6)) (nI (N 0 7)) (V 1) (fun j => nI (N 2 j)) (fun j => nI (N 3 j)) (fun j => nI (N 4 j)) (V 5) (V 6) (fun j => nI (N 7 j)) (fun j => nI (N 8 j)) (fun j => nI (N 9 j)) (fun j => nI (N 10 j)) (fun j => nI (N 11 j)) (fun j => nI (N 12 j)) (fun j => nI (N 13 j)) (fun j => be_fr (N 14 j)) (fun j => nI (N 15 j)) (fun j => nI (N 16 j)) (fun j => nI (N 17 j)) (V 18) (fun j => nI (N 19 j)) (fun j => nI (N 20 j)) (fun j => nI (N 21 j)) (fun j => nI (N 22 j)) (V 23) (fun j => nI (N 24 j)) (V 25) (fun j => nI (N 26 j)) := by
  have hCc := hC
  obtain ⟨hc1, hc8, hW1, hW6, hcc0, hcc1, hcne, ha, hbb, hab⟩ := hC
  have hstart : be_QB cnt W (cnt * 14500 + 6999) (be_dl W (N 0 6)) N := be_QB_new hCc h (fun v _ => be_dl_le hW1 hW6) cnt 0 (by omega) (fun j hj => absurd hj (by omega))
  refine loop_m (σ := Nat × (Nat → Nat → Nat) × (Nat → Nat → Int32)) (fun n s => wX_run_34 post n (nI s.1) (nI (s.2.1 0 0)) (nI (s.2.1 0 1)) (nI (s.2.1 0 2)) (nI (s.2.1 0 3)) (nI (s.2.1 0 4)) (s.2.2 0 5) (nI (s.2.1 0 6)) (nI (s.2.1 0 7)) (s.2.2 1) (fun j => nI (s.2.1 2 j)) (fun j => nI (s.2.1 3 j)) (fun j => nI (s.2.1 4 j)) (s.2.2 5) (s.2.2 6) (fun j => nI (s.2.1 7 j)) (fun j => nI (s.2.1 8 j)) (fun j => nI (s.2.1 9 j)) (fun j => nI (s.2.1 10 j)) (fun j => nI (s.2.1 11 j)) (fun j => nI (s.2.1 12 j)) (fun j => nI (s.2.1 13 j)) (fun j => be_fr (s.2.1 14 j)) (fun j => nI (s.2.1 15 j)) (fun j => nI (s.2.1 16 j)) (fun j => nI (s.2.1 17 j)) (s.2.2 18) (fun j => nI (s.2.1 19 j)) (fun j => nI (s.2.1 20 j)) (fun j => nI (s.2.1 21 j)) (fun j => nI (s.2.1 22 j)) (s.2.2 23) (fun j => nI (s.2.1 24 j)) (s.2.2 25) (fun j => nI (s.2.1 26 j))) (fun s => be_Inv cnt W c0 c1 a b am nd s0 s.2.1 s.2.2 ∧ s.2.1 0 6 ≤ 1000 + s.1 ∧ ∃ X, s.1 + X ≤ 200000 ∧ be_QB cnt W X (be_dl W (s.2.1 0 6)) s.2.1) (fun s => 200000 - s.1) ?_ (0, N, V) ⟨h, by dsimp only; omega, _, by dsimp only; omega, hstart⟩
  rintro n ⟨i, N, V⟩ ⟨h, hck, X, hX, hQ⟩ hk
  dsimp only at h hck hX hQ hk
  show wX_run_34 post (n + 1) (nI i) (nI (N 0 0)) (nI (N 0 1)) (nI (N 0 2)) (nI (N 0 3)) (nI (N 0 4)) (V 0 5) (nI (N 0 6)) (nI (N 0 7)) (V 1) (fun j => nI (N 2 j)) (fun j => nI (N 3 j)) (fun j => nI (N 4 j)) (V 5) (V 6) (fun j => nI (N 7 j)) (fun j => nI (N 8 j)) (fun j => nI (N 9 j)) (fun j => nI (N 10 j)) (fun j => nI (N 11 j)) (fun j => nI (N 12 j)) (fun j => nI (N 13 j)) (fun j => be_fr (N 14 j)) (fun j => nI (N 15 j)) (fun j => nI (N 16 j)) (fun j => nI (N 17 j)) (V 18) (fun j => nI (N 19 j)) (fun j => nI (N 20 j)) (fun j => nI (N 21 j)) (fun j => nI (N 22 j)) (V 23) (fun j => nI (N 24 j)) (V 25) (fun j => nI (N 26 j))
  have i1 := h
  obtain ⟨⟨hB, hTT⟩, ⟨e0, e1, e2, es, hP⟩, j1, j2, j3, j4, j5, hD, hR⟩ := h
  refine pk_le 200000 i (fun hi => H N V i1 ?_) (fun hi => be_done (N := N) (V := V) hB (by omega) (fun hA => br_f (by decide) (H N V i1 (be_AD_AF i1 hA))) (fun hA => br_t rfl ?_)) rfl rfl (by omega) (by omega)
  · rcases hQ with ⟨k, m, _, _, _, q⟩ | ⟨q, _⟩
    · omega
    · exact q
  · refine be_next (N := N) (V := V) hB (by omega) (fun w x hw hfair => ?_)
    rw [e2] at hw hfair
    refine be_step (N := be_up N 0 6 (N 0 6 + 1)) (V := be_vs V 0 (fun _ => x)) hCc (be_Inv_tick i1 (by omega)) (fun j => Nat.succ_le_succ (hTT j)) (show N 0 6 + 1 < 1000000 by omega) hw (fun N' V' g1 g2 => ?_)
    have hclk : N' 0 6 = N 0 6 + 1 := by
      rcases g2 with q | ⟨t, q, _⟩
      · exact q.1.2.2.2.2.2.2.2.2.2
      · exact q.2.2.2.1
    have hd := be_tick (clk := N 0 6) (w0 := w) hW1 hW6 hfair
    obtain ⟨X', hX', hQ'⟩ := be_QB_step (dl' := be_dl W (N 0 6 + 1)) hCc (be_Inv_tick (x := x) i1 (by omega)) g1 hw g2 hA (fun v _ => be_dl_le hW1 hW6) hd (hQ : be_QB cnt W X (be_dl W (N 0 6)) (be_up N 0 6 (N 0 6 + 1)))
    refine nm_r (nI_1 i) (hk (i + 1, N', V') ⟨g1, by dsimp only; omega, X', by dsimp only; omega, ?_⟩ (by dsimp only; omega))
    dsimp only
    rw [hclk]
    exact hQ'
theorem be_run22 {cnt W c0 c1 a b : Nat} {am nd x1 : Int32} {s0 : Nat → Int32} {post : Int32 → St2 → Prop} {N : Nat → Nat → Nat} {V : Nat → Nat → Int32} (hC : be_Cs cnt W c0 c1 a b) (h : be_Inv cnt W c0 c1 a b am nd s0 N V) (hck : N 0 6 ≤ 1000)
    (H : ∀ N' V' g, be_Inv cnt W c0 c1 a b am nd s0 N' V' → be_AF cnt N' → (∀ c, c < 16 → g c = be_vb c s0 (V' 6) (N' 8) cnt) → post (nI (be_nf (N' 16) cnt)) (be_cn (be_up N' 0 1 2) (be_vs V' 1 g))) : wX_run_22 post x1 (nI (N 0 0)) (nI (N 0 1)) (nI (N 0 2)) (nI (N 0 3)) (nI (N 0 4)) (V 0 5) (nI (N 0 6)) (nI (N 0 7)) (V 1) (fun j => nI (N 2 j)) (fun j => nI (N 3 j)) (fun j => nI (N 4 j)) (V 5) (V 6) (fun j => nI (N 7 j)) (fun j => nI (N 8 j)) (fun j => nI (N 9 j)) (fun j => nI (N 10 j)) (fun j => nI (N 11 j)) (fun j => nI (N 12 j)) (fun j => nI (N 13 j)) (fun j => be_fr (N 14 j)) (fun j => nI (N 15 j)) (fun j => nI (N 16 j)) (fun j => nI (N 17 j)) (V 18) (fun j => nI (N 19 j)) (fun j => nI (N 20 j)) (fun j => nI (N 21 j)) (fun j => nI (N 22 j)) (V 23) (fun j => nI (N 24 j)) (V 25) (fun j => nI (N 26 j)) := by
  unfold wX_run_22
  refine nm_e (be_runL hC (fun N' V' g1 g2 => ?_) N (be_vs V 0 (fun _ => V 0 5 ^^^ x1)) h hck)
  have i1 := g1
  obtain ⟨⟨hB, hTT⟩, ⟨e0, e1, e2, es, hP⟩, j1, j2, j3, j4, j5, hD, hR⟩ := g1
  have hc8 := hC.2.1
  unfold wX_run_63
  refine be_commit (N := N') (V := V') hB (by omega) (fun g hg => ?_)
  refine be_run71 (N := be_up N' 0 1 2) (V := be_vs V' 1 g) (be_B_up hB (by omega)) (show N' 0 0 ≤ 8 by omega) ?_
  have := H N' V' g i1 g2 (by rw [← e0, ← es]; exact hg)
  rw [← e0] at this
  exact this
theorem be_run1 {cnt W c0 c1 a b : Nat} {am nd x1 : Int32} {s0 : Nat → Int32} {post : Int32 → St2 → Prop} {N : Nat → Nat → Nat} {V : Nat → Nat → Int32} (hC : be_Cs cnt W c0 c1 a b) (h : be_Inv cnt W c0 c1 a b am nd s0 N V) (hck : N 0 6 ≤ 1000)
    (H : ∀ N' V' g, be_Inv cnt W c0 c1 a b am nd s0 N' V' → be_AF cnt N' → (∀ c, c < 16 → g c = be_vb c s0 (V' 6) (N' 8) cnt) → post (nI (be_nf (N' 16) cnt)) (be_cn (be_up N' 0 1 2) (be_vs V' 1 g))) : wpX_run post (be_cn N V) x1 := by
  have e1 := h.2.1.2.1
  unfold wpX_run be_cn
  refine pk_eq (N 0 1) 2 (fun z => absurd z (by omega)) (fun _ => pk_eq (N 0 1) 0 (fun z => absurd z (by omega)) (fun _ => be_run22 hC h hck H) rfl rfl (by omega) (by omega)) rfl rfl (by omega) (by omega)
/-- nothing has run yet -/
def be_Z (N : Nat → Nat → Nat) : Prop := ∀ j, N 8 j = 0 ∧ N 9 j = 0 ∧ N 10 j = 0 ∧ N 11 j = 0 ∧ N 12 j = 0 ∧ N 16 j = 0 ∧ N 17 j = 0 ∧ N 19 j = 0
theorem be_st0 {P : (Nat → Int32) → Prop} {f : Nat → Nat} {i v : Int32} (k : Nat) (hf : f k = 0) (h : P (fun j => nI (f j))) (hk : i = nI k := by rfl) (hv : v = nI 0 := by rfl) (hb : k < 2 ^ 31 := by omega) : ∀ a, a = upd (fun j => nI (f j)) i.toNatClampNeg v → P a := by
  refine be_st k 0 ?_ hk hv hb
  have e : be_u f k 0 = f := by
    funext j
    rw [be_u_eq]
    split
    · rename_i q
      rw [q, hf]
    · rfl
  rw [e]
  exact h
theorem be_start {post : St2 → Prop} {N : Nat → Nat → Nat} {V : Nat → Nat → Int32} (hz : be_Z N) (H : post (be_cn (be_up (be_up (be_up (be_up N 0 1 1) 0 3 0) 0 4 0) 0 6 0) V)) : wpX_start post (be_cn N V) := by
  unfold wpX_start be_cn
  dsimp only
  refine pk_loop (σ := Unit) (fun n i _ => wX_start_22 post (nI ((be_up (be_up (be_up (be_up N 0 1 1) 0 3 0) 0 4 0) 0 6 0) 0 0)) (nI ((be_up (be_up (be_up (be_up N 0 1 1) 0 3 0) 0 4 0) 0 6 0) 0 1)) (nI ((be_up (be_up (be_up (be_up N 0 1 1) 0 3 0) 0 4 0) 0 6 0) 0 2)) (nI ((be_up (be_up (be_up (be_up N 0 1 1) 0 3 0) 0 4 0) 0 6 0) 0 3)) (nI ((be_up (be_up (be_up (be_up N 0 1 1) 0 3 0) 0 4 0) 0 6 0) 0 4)) (V 0 5) (nI ((be_up (be_up (be_up (be_up N 0 1 1) 0 3 0) 0 4 0) 0 6 0) 0 6)) (nI ((be_up (be_up (be_up (be_up N 0 1 1) 0 3 0) 0 4 0) 0 6 0) 0 7)) n (nI i) (V 1) (fun j => nI (N 2 j)) (fun j => nI (N 3 j)) (fun j => nI (N 4 j)) (V 5) (V 6) (fun j => nI (N 7 j)) (fun j => nI (N 8 j)) (fun j => nI (N 9 j)) (fun j => nI (N 10 j)) (fun j => nI (N 11 j)) (fun j => nI (N 12 j)) (fun j => nI (N 13 j)) (fun j => be_fr (N 14 j)) (fun j => nI (N 15 j)) (fun j => nI (N 16 j)) (fun j => nI (N 17 j)) (V 18) (fun j => nI (N 19 j)) (fun j => nI (N 20 j)) (fun j => nI (N 21 j)) (fun j => nI (N 22 j)) (V 23) (fun j => nI (N 24 j)) (V 25) (fun j => nI (N 26 j))) (fun _ _ => True) 8 0 () (by omega) trivial ?_ ?_
  · intro n _ _
    refine pk_le 8 8 (fun _ => ?_) (fun h => absurd h (by omega))
    refine pk_loop (σ := Unit) (fun n i _ => wX_start_85 post (nI ((be_up (be_up (be_up (be_up N 0 1 1) 0 3 0) 0 4 0) 0 6 0) 0 0)) (nI ((be_up (be_up (be_up (be_up N 0 1 1) 0 3 0) 0 4 0) 0 6 0) 0 1)) (nI ((be_up (be_up (be_up (be_up N 0 1 1) 0 3 0) 0 4 0) 0 6 0) 0 2)) (nI ((be_up (be_up (be_up (be_up N 0 1 1) 0 3 0) 0 4 0) 0 6 0) 0 3)) (nI ((be_up (be_up (be_up (be_up N 0 1 1) 0 3 0) 0 4 0) 0 6 0) 0 4)) (V 0 5) (nI ((be_up (be_up (be_up (be_up N 0 1 1) 0 3 0) 0 4 0) 0 6 0) 0 6)) (nI ((be_up (be_up (be_up (be_up N 0 1 1) 0 3 0) 0 4 0) 0 6 0) 0 7)) n (nI i) (V 1) (fun j => nI (N 2 j)) (fun j => nI (N 3 j)) (fun j => nI (N 4 j)) (V 5) (V 6) (fun j => nI (N 7 j)) (fun j => nI (N 8 j)) (fun j => nI (N 9 j)) (fun j => nI (N 10 j)) (fun j => nI (N 11 j)) (fun j => nI (N 12 j)) (fun j => nI (N 13 j)) (fun j => be_fr (N 14 j)) (fun j => nI (N 15 j)) (fun j => nI (N 16 j)) (fun j => nI (N 17 j)) (V 18) (fun j => nI (N 19 j)) (fun j => nI (N 20 j)) (fun j => nI (N 21 j)) (fun j => nI (N 22 j)) (V 23) (fun j => nI (N 24 j)) (V 25) (fun j => nI (N 26 j))) (fun _ _ => True) 6 0 () (by omega) trivial ?_ ?_
    · intro n _ _
      exact pk_le 6 6 (fun _ => H) (fun h => absurd h (by omega))
    · intro n i _ hi _ hk
      exact pk_le 6 i (fun h => absurd h (by omega)) (fun _ => ⟨pk_in i 6 hi, be_st0 i (hz i).2.2.2.2.2.2.2 (nm_r (nI_1 i) (hk () trivial))⟩)
  · intro n i _ hi _ hk
    obtain ⟨z8, z9, z10, z11, z12, z16, z17, z19⟩ := hz i
    exact pk_le 8 i (fun h => absurd h (by omega)) (fun _ => ⟨pk_in i 8 hi, be_st0 i z9 ⟨pk_in i 8 hi, be_st0 i z10 ⟨pk_in i 8 hi, be_st0 i z11 ⟨pk_in i 8 hi, be_st0 i z12 ⟨pk_in i 8 hi, be_st0 i z8 ⟨pk_in i 8 hi, be_st0 i z17 ⟨pk_in i 8 hi, be_st0 i z16 (nm_r (nI_1 i) (hk () trivial))⟩⟩⟩⟩⟩⟩⟩)
/-- the invariant when all begins -/
theorem be_Inv_start {cnt W c0 c1 a b : Nat} {am nd : Int32} {s0 : Nat → Int32} {N : Nat → Nat → Nat} {V : Nat → Nat → Int32} (hB : ∀ f j, N f j < 1048576) (hz : be_Z N) (e0 : N 0 0 = cnt) (e2 : N 0 2 = W) (es : V 1 = s0) (hP : ∀ t, t < cnt → be_PT cnt c0 c1 a b am nd N V t) :
    be_Inv cnt W c0 c1 a b am nd s0 (be_up (be_up (be_up (be_up N 0 1 1) 0 3 0) 0 4 0) 0 6 0) V := by
  have z8 : ∀ j, N 8 j = 0 := fun j => (hz j).1
  have z9 : ∀ j, N 9 j = 0 := fun j => (hz j).2.1
  have z10 : ∀ j, N 10 j = 0 := fun j => (hz j).2.2.1
  have z11 : ∀ j, N 11 j = 0 := fun j => (hz j).2.2.2.1
  have z12 : ∀ j, N 12 j = 0 := fun j => (hz j).2.2.2.2.1
  have z19 : ∀ j, N 19 j = 0 := fun j => (hz j).2.2.2.2.2.2.2
  refine ⟨⟨be_B_up (be_B_up (be_B_up (be_B_up hB (by omega)) (by omega)) (by omega)) (by omega), fun j => ?_⟩, ⟨e0, rfl, e2, es, hP⟩, ⟨Nat.zero_le _, Nat.zero_le _, fun t _ => ?_⟩, ⟨fun t _ hs => ?_, fun f t hb => ?_, fun f g t hb => ?_⟩, ⟨fun t _ hs => ?_, fun w _ => ?_, fun w v _ _ hs => ?_⟩, fun t _ hs => ?_, fun t _ => ?_, fun t _ hs => ?_, fun w _ hs => ?_⟩
  · show N 10 j ≤ 0
    rw [z10]
    exact Nat.le_refl _
  · show N 9 t ≤ 3 ∧ (N 9 t = 0 → 0 ≤ t)
    rw [z9]
    exact ⟨by omega, fun _ => Nat.zero_le _⟩
  · have hs' : N 9 t = 3 := hs
    rw [z9] at hs'
    omega
  · have hb' : N 11 f / 2 ^ t % 2 = 1 := hb
    rw [z11] at hb'
    exact absurd hb' (be_bit0 t)
  · have hb' : N 11 f / 2 ^ t % 2 = 1 := hb
    rw [z11] at hb'
    exact absurd hb' (be_bit0 t)
  · have hs' : N 9 t = 1 := hs
    rw [z9] at hs'
    omega
  · show N 19 w ≤ 2 ∧ (N 19 w ≠ 0 → N 20 w < cnt) ∧ (N 19 w = 1 → N 9 (N 20 w) = 1 ∧ N 10 (N 20 w) = N 21 w)
    rw [z19]
    exact ⟨by omega, fun z => absurd rfl z, fun z => absurd z (by omega)⟩
  · have hs' : N 19 w = 1 := hs
    rw [z19] at hs'
    omega
  · have hs' : N 9 t = 2 := hs
    rw [z9] at hs'
    omega
  · show N 12 t ≤ 2 ∧ (N 8 t = 0 ∨ N 8 t = 2 ^ c0 ||| 2 ^ c1) ∧ ∀ k, k < N 12 t → N 13 (12 * t + k) = be_ce c0 c1 k ∧ N 14 (12 * t + k) ≤ t
    rw [z12, z8]
    exact ⟨by omega, Or.inl rfl, fun k hk => absurd hk (by omega)⟩
  · have hs' : N 9 t = 2 := hs
    rw [z9] at hs'
    omega
  · have hs' : N 19 w = 1 := hs
    rw [z19] at hs'
    omega
theorem be_run0 {cnt W c0 c1 a b : Nat} {am nd x1 : Int32} {s0 : Nat → Int32} {post : Int32 → St2 → Prop} {N : Nat → Nat → Nat} {V : Nat → Nat → Int32} (hC : be_Cs cnt W c0 c1 a b) (hB : ∀ f j, N f j < 1048576) (hz : be_Z N) (e0 : N 0 0 = cnt) (e1 : N 0 1 = 0) (e2 : N 0 2 = W) (es : V 1 = s0) (hP : ∀ t, t < cnt → be_PT cnt c0 c1 a b am nd N V t)
    (H : ∀ N' V' g, be_Inv cnt W c0 c1 a b am nd s0 N' V' → be_AF cnt N' → (∀ c, c < 16 → g c = be_vb c s0 (V' 6) (N' 8) cnt) → post (nI (be_nf (N' 16) cnt)) (be_cn (be_up N' 0 1 2) (be_vs V' 1 g))) : wpX_run post (be_cn N V) x1 := by
  unfold wpX_run be_cn
  refine pk_eq (N 0 1) 2 (fun z => absurd z (by omega)) (fun _ => pk_eq (N 0 1) 0 (fun _ => ?_) (fun z => absurd e1 z) rfl rfl (by omega) (by omega)) rfl rfl (by omega) (by omega)
  refine be_start (N := N) (V := V) hz ?_
  exact be_run22 (N := be_up (be_up (be_up (be_up N 0 1 1) 0 3 0) 0 4 0) 0 6 0) (V := V) hC (be_Inv_start hB hz e0 e2 es hP) (show (0 : Nat) ≤ 1000 by omega) H
/-- work: at most s steps -/
theorem be_workL {cnt W c0 c1 a b s M : Nat} {am nd : Int32} {s0 : Nat → Int32} {post : Int32 → St2 → Prop} (hC : be_Cs cnt W c0 c1 a b) (hs : s ≤ 7) (hM : M ≤ 900)
    (H : ∀ N' V', be_Inv cnt W c0 c1 a b am nd s0 N' V' → N' 0 6 ≤ M + 7 → post 0 (be_cn N' V')) (N : Nat → Nat → Nat) (V : Nat → Nat → Int32) (h : be_Inv cnt W c0 c1 a b am nd s0 N V) (hck : N 0 6 ≤ M) : ∃ fu, wX_work_34 post (nI s) fu 0 (nI (N 0 0)) (nI (N 0 1)) (nI (N 0 2)) (nI (N 0 3)) (nI (N 0 4)) (V 0 5) (nI (N 0 6)) (nI (N 0 7)) (V 1) (fun j => nI (N 2 j)) (fun j => nI (N 3 j)) (fun j => nI (N 4 j)) (V 5) (V 6) (fun j => nI (N 7 j)) (fun j => nI (N 8 j)) (fun j => nI (N 9 j)) (fun j => nI (N 10 j)) (fun j => nI (N 11 j)) (fun j => nI (N 12 j)) (fun j => nI (N 13 j)) (fun j => be_fr (N 14 j)) (fun j => nI (N 15 j)) (fun j => nI (N 16 j)) (fun j => nI (N 17 j)) (V 18) (fun j => nI (N 19 j)) (fun j => nI (N 20 j)) (fun j => nI (N 21 j)) (fun j => nI (N 22 j)) (V 23) (fun j => nI (N 24 j)) (V 25) (fun j => nI (N 26 j)) := by
  have hCc := hC
  obtain ⟨hc1, hc8, hW1, hW6, hcc0, hcc1, hcne, ha, hbb, hab⟩ := hC
  refine loop_m (σ := Nat × (Nat → Nat → Nat) × (Nat → Nat → Int32)) (fun n s' => wX_work_34 post (nI s) n (nI s'.1) (nI (s'.2.1 0 0)) (nI (s'.2.1 0 1)) (nI (s'.2.1 0 2)) (nI (s'.2.1 0 3)) (nI (s'.2.1 0 4)) (s'.2.2 0 5) (nI (s'.2.1 0 6)) (nI (s'.2.1 0 7)) (s'.2.2 1) (fun j => nI (s'.2.1 2 j)) (fun j => nI (s'.2.1 3 j)) (fun j => nI (s'.2.1 4 j)) (s'.2.2 5) (s'.2.2 6) (fun j => nI (s'.2.1 7 j)) (fun j => nI (s'.2.1 8 j)) (fun j => nI (s'.2.1 9 j)) (fun j => nI (s'.2.1 10 j)) (fun j => nI (s'.2.1 11 j)) (fun j => nI (s'.2.1 12 j)) (fun j => nI (s'.2.1 13 j)) (fun j => be_fr (s'.2.1 14 j)) (fun j => nI (s'.2.1 15 j)) (fun j => nI (s'.2.1 16 j)) (fun j => nI (s'.2.1 17 j)) (s'.2.2 18) (fun j => nI (s'.2.1 19 j)) (fun j => nI (s'.2.1 20 j)) (fun j => nI (s'.2.1 21 j)) (fun j => nI (s'.2.1 22 j)) (s'.2.2 23) (fun j => nI (s'.2.1 24 j)) (s'.2.2 25) (fun j => nI (s'.2.1 26 j))) (fun s' => be_Inv cnt W c0 c1 a b am nd s0 s'.2.1 s'.2.2 ∧ s'.2.1 0 6 ≤ M + s'.1 ∧ s'.1 ≤ s) (fun s' => s - s'.1) ?_ (0, N, V) ⟨h, by dsimp only; omega, by dsimp only; omega⟩
  rintro n ⟨i, N, V⟩ ⟨h, hck, his⟩ hk
  dsimp only at h hck his hk
  show wX_work_34 post (nI s) (n + 1) (nI i) (nI (N 0 0)) (nI (N 0 1)) (nI (N 0 2)) (nI (N 0 3)) (nI (N 0 4)) (V 0 5) (nI (N 0 6)) (nI (N 0 7)) (V 1) (fun j => nI (N 2 j)) (fun j => nI (N 3 j)) (fun j => nI (N 4 j)) (V 5) (V 6) (fun j => nI (N 7 j)) (fun j => nI (N 8 j)) (fun j => nI (N 9 j)) (fun j => nI (N 10 j)) (fun j => nI (N 11 j)) (fun j => nI (N 12 j)) (fun j => nI (N 13 j)) (fun j => be_fr (N 14 j)) (fun j => nI (N 15 j)) (fun j => nI (N 16 j)) (fun j => nI (N 17 j)) (V 18) (fun j => nI (N 19 j)) (fun j => nI (N 20 j)) (fun j => nI (N 21 j)) (fun j => nI (N 22 j)) (V 23) (fun j => nI (N 24 j)) (V 25) (fun j => nI (N 26 j))
  have i1 := h
  obtain ⟨⟨hB, hTT⟩, ⟨e0, e1, e2, es, hP⟩, j1, j2, j3, j4, j5, hD, hR⟩ := h
  have hend : post 0 (be_cn N V) := H N V i1 (by omega)
  refine pk_le s i (fun hi => hend) (fun hi => pk_le 2000 i (fun z => absurd z (by omega)) (fun _ => be_done (N := N) (V := V) hB (by omega) (fun hA => br_f (by decide) hend) (fun hA => br_t rfl ?_)) rfl rfl (by omega) (by omega)) rfl rfl (by omega) (by omega)
  refine be_next (N := N) (V := V) hB (by omega) (fun w x hw hfair => ?_)
  rw [e2] at hw hfair
  refine be_step (N := be_up N 0 6 (N 0 6 + 1)) (V := be_vs V 0 (fun _ => x)) hCc (be_Inv_tick i1 (by omega)) (fun j => Nat.succ_le_succ (hTT j)) (show N 0 6 + 1 < 1000000 by omega) hw (fun N' V' g1 g2 => ?_)
  have hclk : N' 0 6 = N 0 6 + 1 := by
    rcases g2 with q | ⟨t, q, _⟩
    · exact q.1.2.2.2.2.2.2.2.2.2
    · exact q.2.2.2.1
  exact nm_r (nI_1 i) (hk (i + 1, N', V') ⟨g1, by dsimp only; omega, by dsimp only; omega⟩ (by dsimp only; omega))
theorem be_work1 {cnt W c0 c1 a b s M : Nat} {am nd x1 : Int32} {s0 : Nat → Int32} {post : Int32 → St2 → Prop} {N : Nat → Nat → Nat} {V : Nat → Nat → Int32} (hC : be_Cs cnt W c0 c1 a b) (hs : s ≤ 7) (hM : M ≤ 900) (h : be_Inv cnt W c0 c1 a b am nd s0 N V) (hck : N 0 6 ≤ M)
    (H : ∀ N' V', be_Inv cnt W c0 c1 a b am nd s0 N' V' → N' 0 6 ≤ M + 7 → post 0 (be_cn N' V')) : wpX_work post (be_cn N V) x1 (nI s) := by
  have e1 := h.2.1.2.1
  unfold wpX_work be_cn
  refine pk_eq (N 0 1) 2 (fun z => absurd z (by omega)) (fun _ => pk_eq (N 0 1) 0 (fun z => absurd z (by omega)) (fun _ => ?_) rfl rfl (by omega) (by omega)) rfl rfl (by omega) (by omega)
  unfold wX_work_22
  exact nm_e (be_workL hC hs hM H N (be_vs V 0 (fun _ => V 0 5 ^^^ x1)) h hck)
theorem be_work0 {cnt W c0 c1 a b s : Nat} {am nd x1 : Int32} {s0 : Nat → Int32} {post : Int32 → St2 → Prop} {N : Nat → Nat → Nat} {V : Nat → Nat → Int32} (hC : be_Cs cnt W c0 c1 a b) (hs : s ≤ 7) (hB : ∀ f j, N f j < 1048576) (hz : be_Z N) (e0 : N 0 0 = cnt) (e1 : N 0 1 = 0) (e2 : N 0 2 = W) (es : V 1 = s0) (hP : ∀ t, t < cnt → be_PT cnt c0 c1 a b am nd N V t)
    (H : ∀ N' V', be_Inv cnt W c0 c1 a b am nd s0 N' V' → N' 0 6 ≤ 7 → post 0 (be_cn N' V')) : wpX_work post (be_cn N V) x1 (nI s) := by
  unfold wpX_work be_cn
  refine pk_eq (N 0 1) 2 (fun z => absurd z (by omega)) (fun _ => pk_eq (N 0 1) 0 (fun _ => ?_) (fun z => absurd e1 z) rfl rfl (by omega) (by omega)) rfl rfl (by omega) (by omega)
  refine be_start (N := N) (V := V) hz ?_
  show wX_work_22 post x1 (nI s) (nI ((be_up (be_up (be_up (be_up N 0 1 1) 0 3 0) 0 4 0) 0 6 0) 0 0)) (nI ((be_up (be_up (be_up (be_up N 0 1 1) 0 3 0) 0 4 0) 0 6 0) 0 1)) (nI ((be_up (be_up (be_up (be_up N 0 1 1) 0 3 0) 0 4 0) 0 6 0) 0 2)) (nI ((be_up (be_up (be_up (be_up N 0 1 1) 0 3 0) 0 4 0) 0 6 0) 0 3)) (nI ((be_up (be_up (be_up (be_up N 0 1 1) 0 3 0) 0 4 0) 0 6 0) 0 4)) (V 0 5) (nI ((be_up (be_up (be_up (be_up N 0 1 1) 0 3 0) 0 4 0) 0 6 0) 0 6)) (nI ((be_up (be_up (be_up (be_up N 0 1 1) 0 3 0) 0 4 0) 0 6 0) 0 7)) (V 1) (fun j => nI ((be_up (be_up (be_up (be_up N 0 1 1) 0 3 0) 0 4 0) 0 6 0) 2 j)) (fun j => nI ((be_up (be_up (be_up (be_up N 0 1 1) 0 3 0) 0 4 0) 0 6 0) 3 j)) (fun j => nI ((be_up (be_up (be_up (be_up N 0 1 1) 0 3 0) 0 4 0) 0 6 0) 4 j)) (V 5) (V 6) (fun j => nI ((be_up (be_up (be_up (be_up N 0 1 1) 0 3 0) 0 4 0) 0 6 0) 7 j)) (fun j => nI ((be_up (be_up (be_up (be_up N 0 1 1) 0 3 0) 0 4 0) 0 6 0) 8 j)) (fun j => nI ((be_up (be_up (be_up (be_up N 0 1 1) 0 3 0) 0 4 0) 0 6 0) 9 j)) (fun j => nI ((be_up (be_up (be_up (be_up N 0 1 1) 0 3 0) 0 4 0) 0 6 0) 10 j)) (fun j => nI ((be_up (be_up (be_up (be_up N 0 1 1) 0 3 0) 0 4 0) 0 6 0) 11 j)) (fun j => nI ((be_up (be_up (be_up (be_up N 0 1 1) 0 3 0) 0 4 0) 0 6 0) 12 j)) (fun j => nI ((be_up (be_up (be_up (be_up N 0 1 1) 0 3 0) 0 4 0) 0 6 0) 13 j)) (fun j => be_fr ((be_up (be_up (be_up (be_up N 0 1 1) 0 3 0) 0 4 0) 0 6 0) 14 j)) (fun j => nI ((be_up (be_up (be_up (be_up N 0 1 1) 0 3 0) 0 4 0) 0 6 0) 15 j)) (fun j => nI ((be_up (be_up (be_up (be_up N 0 1 1) 0 3 0) 0 4 0) 0 6 0) 16 j)) (fun j => nI ((be_up (be_up (be_up (be_up N 0 1 1) 0 3 0) 0 4 0) 0 6 0) 17 j)) (V 18) (fun j => nI ((be_up (be_up (be_up (be_up N 0 1 1) 0 3 0) 0 4 0) 0 6 0) 19 j)) (fun j => nI ((be_up (be_up (be_up (be_up N 0 1 1) 0 3 0) 0 4 0) 0 6 0) 20 j)) (fun j => nI ((be_up (be_up (be_up (be_up N 0 1 1) 0 3 0) 0 4 0) 0 6 0) 21 j)) (fun j => nI ((be_up (be_up (be_up (be_up N 0 1 1) 0 3 0) 0 4 0) 0 6 0) 22 j)) (V 23) (fun j => nI ((be_up (be_up (be_up (be_up N 0 1 1) 0 3 0) 0 4 0) 0 6 0) 24 j)) (V 25) (fun j => nI ((be_up (be_up (be_up (be_up N 0 1 1) 0 3 0) 0 4 0) 0 6 0) 26 j))
  unfold wX_work_22
  exact nm_e (be_workL (M := 0) hC hs (by omega) (fun N' V' g1 g2 => H N' V' g1 (by omega)) (be_up (be_up (be_up (be_up N 0 1 1) 0 3 0) 0 4 0) 0 6 0) (be_vs V 0 (fun _ => V 0 5 ^^^ x1)) (be_Inv_start hB hz e0 e2 es hP) (Nat.le_refl 0))
end
section
theorem be_expect {post : St2 → Prop} {N : Nat → Nat → Nat} {V : Nat → Nat → Int32} (H : post (be_cn N V)) : wpX_expect post (be_cn N V) 1 := by
  unfold wpX_expect be_cn
  exact br_f (by decide) (nm_r (Int32.add_zero _) H)
theorem be_checkWorker {cnt W c0 c1 a b w : Nat} {am nd : Int32} {s0 : Nat → Int32} {post : St2 → Prop} {N : Nat → Nat → Nat} {V : Nat → Nat → Int32} (hW6 : W ≤ 6) (hc8 : cnt ≤ 8) (h : be_Inv cnt W c0 c1 a b am nd s0 N V) (hw : w < W) (H : post (be_cn N V)) : wpX_checkWorker post (be_cn N V) (nI w) := by
  obtain ⟨⟨hB, hTT⟩, ⟨e0, e1, e2, es, hP⟩, j1, j2, j3, j4, j5, hD, hR⟩ := h
  have b19 := hB 19 w
  have b21 := hB 21 w
  unfold wpX_checkWorker be_cn
  dsimp only
  rw [nI_clamp (show w < 2 ^ 31 by omega)]
  refine ⟨pk_in w 6 (by omega), pk_eq (N 19 w) 1 (fun h1 => ⟨pk_in w 6 (by omega), nm_e ?_⟩) (fun _ => H)⟩
  have q := (j3.2.1 w hw).2.2 h1
  have htc := (j3.2.1 w hw).2.1 (by omega)
  have b10 := hB 10 (N 20 w)
  rw [nI_clamp (show N 20 w < 2 ^ 31 by omega), q.1, q.2]
  refine ⟨be_in (by omega), br_t rfl ⟨be_in (by omega), pk_in w 6 (by omega), br_t rfl ?_⟩⟩
  unfold wX_checkWorker_49
  refine be_expect (N := N) (V := V) ?_
  refine pk_loop (σ := Unit) (fun n i _ => wX_checkWorker_54 post (nI w) (nI (N 20 w)) n (nI i) (nI (N 0 0)) (nI (N 0 1)) (nI (N 0 2)) (nI (N 0 3)) (nI (N 0 4)) (V 0 5) (nI (N 0 6)) (nI (N 0 7)) (V 1) (fun j => nI (N 2 j)) (fun j => nI (N 3 j)) (fun j => nI (N 4 j)) (V 5) (V 6) (fun j => nI (N 7 j)) (fun j => nI (N 8 j)) (fun j => nI (N 9 j)) (fun j => nI (N 10 j)) (fun j => nI (N 11 j)) (fun j => nI (N 12 j)) (fun j => nI (N 13 j)) (fun j => be_fr (N 14 j)) (fun j => nI (N 15 j)) (fun j => nI (N 16 j)) (fun j => nI (N 17 j)) (V 18) (fun j => nI (N 19 j)) (fun j => nI (N 20 j)) (fun j => nI (N 21 j)) (fun j => nI (N 22 j)) (V 23) (fun j => nI (N 24 j)) (V 25) (fun j => nI (N 26 j))) (fun _ _ => True) w 0 () (by omega) trivial ?_ ?_
  · intro n _ _
    exact pk_le w w (fun _ => H) (fun z => absurd z (by omega))
  · intro n i _ hi _ hk
    have b19i := hB 19 i
    have b20i := hB 20 i
    have nxt : wX_checkWorker_80 post (wX_checkWorker_54 post (nI w) (nI (N 20 w)) n) (nI w) (nI (N 20 w)) (nI i) (nI (N 0 0)) (nI (N 0 1)) (nI (N 0 2)) (nI (N 0 3)) (nI (N 0 4)) (V 0 5) (nI (N 0 6)) (nI (N 0 7)) (V 1) (fun j => nI (N 2 j)) (fun j => nI (N 3 j)) (fun j => nI (N 4 j)) (V 5) (V 6) (fun j => nI (N 7 j)) (fun j => nI (N 8 j)) (fun j => nI (N 9 j)) (fun j => nI (N 10 j)) (fun j => nI (N 11 j)) (fun j => nI (N 12 j)) (fun j => nI (N 13 j)) (fun j => be_fr (N 14 j)) (fun j => nI (N 15 j)) (fun j => nI (N 16 j)) (fun j => nI (N 17 j)) (V 18) (fun j => nI (N 19 j)) (fun j => nI (N 20 j)) (fun j => nI (N 21 j)) (fun j => nI (N 22 j)) (V 23) (fun j => nI (N 24 j)) (V 25) (fun j => nI (N 26 j)) := by
      unfold wX_checkWorker_80 wX_checkWorker_85
      exact be_expect (N := N) (V := V) (nm_r (nI_1 i) (hk () trivial))
    refine pk_le w i (fun z => absurd z (by omega)) (fun _ => ⟨pk_in i 6 (by omega), pk_eq (N 19 i) 1 (fun z1 => ⟨pk_in i 6 (by omega), pk_eq (N 20 i) (N 20 w) (fun z2 => ?_) (fun _ => nxt) (by rw [nI_clamp (by omega)]) rfl (by omega) (by omega)⟩) (fun _ => nxt) (by rw [nI_clamp (by omega)]) rfl (by omega) (by omega)⟩)
    have := j3.2.2 i w (by omega) hw z1 h1 z2
    omega
/-- how many before i are waited for by t -/
def be_fd (wt : Nat → Nat) (t : Nat) : Nat → Nat
  | 0 => 0
  | i + 1 => be_fd wt t i + (if wt i / 2 ^ t % 2 = 1 then 1 else 0)
theorem be_fd_le (wt : Nat → Nat) (t : Nat) : ∀ i, be_fd wt t i ≤ i := by
  intro i
  induction i with
  | zero => exact Nat.le_refl 0
  | succ i ih =>
    unfold be_fd
    split <;> omega
theorem be_fd_0 {wt : Nat → Nat} {t : Nat} : ∀ i, (∀ f, f < i → ¬ wt f / 2 ^ t % 2 = 1) → be_fd wt t i = 0 := by
  intro i
  induction i with
  | zero => intro _; rfl
  | succ i ih =>
    intro h
    unfold be_fd
    rw [if_neg (h i (by omega)), ih (fun f hf => h f (by omega))]
theorem be_fd_1 {wt : Nat → Nat} {t f : Nat} (hf : wt f / 2 ^ t % 2 = 1) (hu : ∀ g, wt g / 2 ^ t % 2 = 1 → g = f) : ∀ i, f < i → be_fd wt t i = 1 := by
  intro i
  induction i with
  | zero => intro h; omega
  | succ i ih =>
    intro h
    unfold be_fd
    by_cases e : i = f
    · subst e
      rw [if_pos hf, be_fd_0 i (fun g hg hb => by have := hu g hb; omega)]
    · rw [if_neg (fun z => e (hu i z)), ih (by omega)]
theorem be_fd_st {cnt t : Nat} {st wt : Nat → Nat} (hc : cnt ≤ 8) (h : be_J2 cnt st wt) (ht : t < cnt) : be_fd wt t 8 = if st t = 3 then 1 else 0 := by
  by_cases hs : st t = 3
  · rw [if_pos hs]
    obtain ⟨f, hf, hb⟩ := h.1 t ht hs
    exact be_fd_1 hb (fun g hg => h.2.2 g f t hg hb) 8 (by omega)
  · rw [if_neg hs]
    exact be_fd_0 8 (fun f _ hb => hs (h.2.1 f t hb).2.2.1)
/-- the checks of one transaction; the phase is 1, or the reads hold -/
theorem be_checkTr {cnt c0 c1 t : Nat} {post : St2 → Prop} {N : Nat → Nat → Nat} {V : Nat → Nat → Int32} (hB : ∀ f j, N f j < 1048576) (hc8 : cnt ≤ 8) (hcc0 : c0 < 16) (hcc1 : c1 < 16) (ht : t < cnt) (j1 : N 9 t = 0 → N 0 3 ≤ t) (j2 : be_J2 cnt (N 9) (N 11)) (j5 : be_J5 cnt c0 c1 (N 8) (N 12) (N 13) (N 14))
    (hph : N 0 1 = 1 ∨ (N 0 1 = 2 ∧ N 9 t = 2 ∧ be_rh N t)) (H : post (be_cn N V)) : wpX_checkTransaction post (be_cn N V) (nI t) := by
  have b9 := hB 9 t
  have b12 := hB 12 t
  have b03 := hB 0 3
  have h5 := j5 t ht
  have l152 : ∃ fu, wX_checkTransaction_152 post (nI t) fu 0 (nI (N 0 0)) (nI (N 0 1)) (nI (N 0 2)) (nI (N 0 3)) (nI (N 0 4)) (V 0 5) (nI (N 0 6)) (nI (N 0 7)) (V 1) (fun j => nI (N 2 j)) (fun j => nI (N 3 j)) (fun j => nI (N 4 j)) (V 5) (V 6) (fun j => nI (N 7 j)) (fun j => nI (N 8 j)) (fun j => nI (N 9 j)) (fun j => nI (N 10 j)) (fun j => nI (N 11 j)) (fun j => nI (N 12 j)) (fun j => nI (N 13 j)) (fun j => be_fr (N 14 j)) (fun j => nI (N 15 j)) (fun j => nI (N 16 j)) (fun j => nI (N 17 j)) (V 18) (fun j => nI (N 19 j)) (fun j => nI (N 20 j)) (fun j => nI (N 21 j)) (fun j => nI (N 22 j)) (V 23) (fun j => nI (N 24 j)) (V 25) (fun j => nI (N 26 j)) := by
    refine pk_loop (σ := Unit) (fun n i _ => wX_checkTransaction_152 post (nI t) n (nI i) (nI (N 0 0)) (nI (N 0 1)) (nI (N 0 2)) (nI (N 0 3)) (nI (N 0 4)) (V 0 5) (nI (N 0 6)) (nI (N 0 7)) (V 1) (fun j => nI (N 2 j)) (fun j => nI (N 3 j)) (fun j => nI (N 4 j)) (V 5) (V 6) (fun j => nI (N 7 j)) (fun j => nI (N 8 j)) (fun j => nI (N 9 j)) (fun j => nI (N 10 j)) (fun j => nI (N 11 j)) (fun j => nI (N 12 j)) (fun j => nI (N 13 j)) (fun j => be_fr (N 14 j)) (fun j => nI (N 15 j)) (fun j => nI (N 16 j)) (fun j => nI (N 17 j)) (V 18) (fun j => nI (N 19 j)) (fun j => nI (N 20 j)) (fun j => nI (N 21 j)) (fun j => nI (N 22 j)) (V 23) (fun j => nI (N 24 j)) (V 25) (fun j => nI (N 26 j))) (fun _ _ => True) (N 12 t) 0 () (by omega) trivial ?_ ?_
    · intro n _ _
      exact ⟨pk_in t 8 (by omega), pk_le (N 12 t) (N 12 t) (fun _ => H) (fun z => absurd z (by omega)) (by rw [nI_clamp (by omega)]) rfl (by omega) (by omega)⟩
    · intro n i _ hi _ hk
      have hfr := (h5.2.2 i hi).2
      have b14 := hB 14 (12 * t + i)
      have e : (12 : Int32) * nI t + nI i = nI (12 * t + i) := be_mulAdd 12 t i
      refine ⟨pk_in t 8 (by omega), pk_le (N 12 t) i (fun z => absurd z (by omega)) (fun _ => ?_) (by rw [nI_clamp (by omega)]) rfl (by omega) (by omega)⟩
      rw [e, nI_clamp (show 12 * t + i < 2 ^ 31 by omega)]
      refine ⟨be_in (by omega), br_f ?_ ?_⟩
      · show ¬ nI t ≤ be_fr (N 14 (12 * t + i))
        by_cases h0 : N 14 (12 * t + i) = 0
        · rw [h0]
          intro z
          have h1 : nI t ≤ (-1 : Int32) := z
          rw [Int32.le_iff_toInt_le, nI_toInt (by omega)] at h1
          have : (-1 : Int32).toInt = -1 := by decide
          omega
        · rw [be_fr_pos h0]
          exact nI_ge (by omega) (by omega)
      · unfold wX_checkTransaction_183
        exact be_expect (N := N) (V := V) (nm_r (nI_1 i) (hk () trivial))
  have l147 : wX_checkTransaction_147 post (nI t) 1 (nI (N 0 0)) (nI (N 0 1)) (nI (N 0 2)) (nI (N 0 3)) (nI (N 0 4)) (V 0 5) (nI (N 0 6)) (nI (N 0 7)) (V 1) (fun j => nI (N 2 j)) (fun j => nI (N 3 j)) (fun j => nI (N 4 j)) (V 5) (V 6) (fun j => nI (N 7 j)) (fun j => nI (N 8 j)) (fun j => nI (N 9 j)) (fun j => nI (N 10 j)) (fun j => nI (N 11 j)) (fun j => nI (N 12 j)) (fun j => nI (N 13 j)) (fun j => be_fr (N 14 j)) (fun j => nI (N 15 j)) (fun j => nI (N 16 j)) (fun j => nI (N 17 j)) (V 18) (fun j => nI (N 19 j)) (fun j => nI (N 20 j)) (fun j => nI (N 21 j)) (fun j => nI (N 22 j)) (V 23) (fun j => nI (N 24 j)) (V 25) (fun j => nI (N 26 j)) := by
    unfold wX_checkTransaction_147
    exact be_expect (N := N) (V := V) l152
  have l117 : wX_checkTransaction_117 post (nI t) 1 (nI (N 0 0)) (nI (N 0 1)) (nI (N 0 2)) (nI (N 0 3)) (nI (N 0 4)) (V 0 5) (nI (N 0 6)) (nI (N 0 7)) (V 1) (fun j => nI (N 2 j)) (fun j => nI (N 3 j)) (fun j => nI (N 4 j)) (V 5) (V 6) (fun j => nI (N 7 j)) (fun j => nI (N 8 j)) (fun j => nI (N 9 j)) (fun j => nI (N 10 j)) (fun j => nI (N 11 j)) (fun j => nI (N 12 j)) (fun j => nI (N 13 j)) (fun j => be_fr (N 14 j)) (fun j => nI (N 15 j)) (fun j => nI (N 16 j)) (fun j => nI (N 17 j)) (V 18) (fun j => nI (N 19 j)) (fun j => nI (N 20 j)) (fun j => nI (N 21 j)) (fun j => nI (N 22 j)) (V 23) (fun j => nI (N 24 j)) (V 25) (fun j => nI (N 26 j)) := by
    unfold wX_checkTransaction_117
    refine be_expect (N := N) (V := V) ⟨pk_in t 8 (by omega), pk_eq (N 9 t) 0 (fun z => pk_lt t (N 0 3) (fun y => absurd y (by have := j1 z; omega)) (fun _ => l147)) (fun _ => l147) (by rw [nI_clamp (by omega)]) rfl (by omega) (by omega)⟩
  have l39 : ∃ fu, wX_checkTransaction_39 post (nI t) fu 0 0 (nI (N 0 0)) (nI (N 0 1)) (nI (N 0 2)) (nI (N 0 3)) (nI (N 0 4)) (V 0 5) (nI (N 0 6)) (nI (N 0 7)) (V 1) (fun j => nI (N 2 j)) (fun j => nI (N 3 j)) (fun j => nI (N 4 j)) (V 5) (V 6) (fun j => nI (N 7 j)) (fun j => nI (N 8 j)) (fun j => nI (N 9 j)) (fun j => nI (N 10 j)) (fun j => nI (N 11 j)) (fun j => nI (N 12 j)) (fun j => nI (N 13 j)) (fun j => be_fr (N 14 j)) (fun j => nI (N 15 j)) (fun j => nI (N 16 j)) (fun j => nI (N 17 j)) (V 18) (fun j => nI (N 19 j)) (fun j => nI (N 20 j)) (fun j => nI (N 21 j)) (fun j => nI (N 22 j)) (V 23) (fun j => nI (N 24 j)) (V 25) (fun j => nI (N 26 j)) := by
    refine pk_loop (σ := Unit) (fun n i _ => wX_checkTransaction_39 post (nI t) n (nI (be_fd (N 11) t i)) (nI i) (nI (N 0 0)) (nI (N 0 1)) (nI (N 0 2)) (nI (N 0 3)) (nI (N 0 4)) (V 0 5) (nI (N 0 6)) (nI (N 0 7)) (V 1) (fun j => nI (N 2 j)) (fun j => nI (N 3 j)) (fun j => nI (N 4 j)) (V 5) (V 6) (fun j => nI (N 7 j)) (fun j => nI (N 8 j)) (fun j => nI (N 9 j)) (fun j => nI (N 10 j)) (fun j => nI (N 11 j)) (fun j => nI (N 12 j)) (fun j => nI (N 13 j)) (fun j => be_fr (N 14 j)) (fun j => nI (N 15 j)) (fun j => nI (N 16 j)) (fun j => nI (N 17 j)) (V 18) (fun j => nI (N 19 j)) (fun j => nI (N 20 j)) (fun j => nI (N 21 j)) (fun j => nI (N 22 j)) (V 23) (fun j => nI (N 24 j)) (V 25) (fun j => nI (N 26 j))) (fun _ _ => True) 8 0 () (by omega) trivial ?_ ?_
    · intro n _ _
      have hfd := be_fd_st hc8 j2 ht
      refine pk_le 8 8 (fun _ => ⟨pk_in t 8 (by omega), pk_eq (N 9 t) 3 (fun z => ?_) (fun z => ?_) (by rw [nI_clamp (by omega)]) rfl (by omega) (by omega)⟩) (fun z => absurd z (by omega))
      · rw [if_pos z] at hfd
        rw [hfd]
        unfold wX_checkTransaction_109
        exact br_t rfl l117
      · rw [if_neg z] at hfd
        rw [hfd]
        unfold wX_checkTransaction_109
        exact br_t rfl l117
    · intro n i _ hi _ hk
      have hk' := hk () trivial
      have b11 := hB 11 i
      have b9i := hB 9 i
      refine pk_le 8 i (fun z => absurd z (by omega)) (fun _ => ⟨pk_in i 8 (by omega), be_br (m := N 11 i) (c := t) (fun z => ?_) (fun z => ?_) (by omega) (by omega) (by rw [nI_clamp (by omega)]) rfl⟩)
      · have e : be_fd (N 11) t (i + 1) = be_fd (N 11) t i + 1 := by
          show be_fd (N 11) t i + (if N 11 i / 2 ^ t % 2 = 1 then 1 else 0) = _
          rw [if_pos z]
        rw [e] at hk'
        have hq := j2.2.1 i t z
        refine nm_r (nI_1 _) (pk_le t i (fun y => absurd y (by omega)) (fun _ => ⟨pk_in i 8 (by omega), pk_eq (N 9 i) 2 (fun y => absurd y hq.2.2.2) (fun _ => ?_) (by rw [nI_clamp (by omega)]) rfl (by omega) (by omega)⟩))
        unfold wX_checkTransaction_83
        exact be_expect (N := N) (V := V) (nm_r (nI_1 i) hk')
      · have e : be_fd (N 11) t (i + 1) = be_fd (N 11) t i := by
          show be_fd (N 11) t i + (if N 11 i / 2 ^ t % 2 = 1 then 1 else 0) = _
          rw [if_neg z]
          rfl
        rw [e] at hk'
        exact nm_r (nI_1 i) hk'
  have l27 : wX_checkTransaction_27 post (nI t) (nI (N 0 0)) (nI (N 0 1)) (nI (N 0 2)) (nI (N 0 3)) (nI (N 0 4)) (V 0 5) (nI (N 0 6)) (nI (N 0 7)) (V 1) (fun j => nI (N 2 j)) (fun j => nI (N 3 j)) (fun j => nI (N 4 j)) (V 5) (V 6) (fun j => nI (N 7 j)) (fun j => nI (N 8 j)) (fun j => nI (N 9 j)) (fun j => nI (N 10 j)) (fun j => nI (N 11 j)) (fun j => nI (N 12 j)) (fun j => nI (N 13 j)) (fun j => be_fr (N 14 j)) (fun j => nI (N 15 j)) (fun j => nI (N 16 j)) (fun j => nI (N 17 j)) (V 18) (fun j => nI (N 19 j)) (fun j => nI (N 20 j)) (fun j => nI (N 21 j)) (fun j => nI (N 22 j)) (V 23) (fun j => nI (N 24 j)) (V 25) (fun j => nI (N 26 j)) := by
    unfold wX_checkTransaction_27 wX_checkTransaction_32
    exact be_expect (N := N) (V := V) l39
  unfold wpX_checkTransaction be_cn
  refine pk_eq (N 0 1) 1 (fun _ => l27) (fun z => ⟨pk_in t 8 (by omega), ?_⟩) rfl rfl (by rcases hph with q | q <;> omega) (by omega)
  rcases hph with q | ⟨q1, q2, q3⟩
  · exact absurd q z
  · refine pk_eq (N 9 t) 2 (fun _ => ?_) (fun y => absurd q2 y) (by rw [nI_clamp (by omega)]) rfl (by omega) (by omega)
    refine be_readsHold (N := N) (V := V) hB (by omega) (by omega) (fun k hk => ?_) (fun _ => br_f (by decide) l27) (fun y => absurd q3 y)
    rw [(h5.2.2 k hk).1]
    unfold be_ce
    split <;> omega
theorem be_faults36 {cnt c0 c1 : Nat} {post : Int32 → St2 → Prop} {N : Nat → Nat → Nat} {V : Nat → Nat → Int32} (hB : ∀ f j, N f j < 1048576) (e0 : N 0 0 = cnt) (e7 : N 0 7 = 0) (hc8 : cnt ≤ 8) (hcc0 : c0 < 16) (hcc1 : c1 < 16) (j1 : ∀ t, t < cnt → N 9 t = 0 → N 0 3 ≤ t) (j2 : be_J2 cnt (N 9) (N 11)) (j5 : be_J5 cnt c0 c1 (N 8) (N 12) (N 13) (N 14))
    (hph : N 0 1 = 1 ∨ (N 0 1 = 2 ∧ ∀ t, t < cnt → N 9 t = 2 ∧ be_rh N t)) (H : post 0 (be_cn N V)) : ∃ fu, wX_faults_36 post fu 0 (nI (N 0 0)) (nI (N 0 1)) (nI (N 0 2)) (nI (N 0 3)) (nI (N 0 4)) (V 0 5) (nI (N 0 6)) (nI (N 0 7)) (V 1) (fun j => nI (N 2 j)) (fun j => nI (N 3 j)) (fun j => nI (N 4 j)) (V 5) (V 6) (fun j => nI (N 7 j)) (fun j => nI (N 8 j)) (fun j => nI (N 9 j)) (fun j => nI (N 10 j)) (fun j => nI (N 11 j)) (fun j => nI (N 12 j)) (fun j => nI (N 13 j)) (fun j => be_fr (N 14 j)) (fun j => nI (N 15 j)) (fun j => nI (N 16 j)) (fun j => nI (N 17 j)) (V 18) (fun j => nI (N 19 j)) (fun j => nI (N 20 j)) (fun j => nI (N 21 j)) (fun j => nI (N 22 j)) (V 23) (fun j => nI (N 24 j)) (V 25) (fun j => nI (N 26 j)) := by
  have hp2 : N 0 1 = 1 ∨ N 0 1 = 2 := by
    rcases hph with q | q
    · exact Or.inl q
    · exact Or.inr q.1
  refine pk_loop (σ := Unit) (fun n i _ => wX_faults_36 post n (nI i) (nI (N 0 0)) (nI (N 0 1)) (nI (N 0 2)) (nI (N 0 3)) (nI (N 0 4)) (V 0 5) (nI (N 0 6)) (nI (N 0 7)) (V 1) (fun j => nI (N 2 j)) (fun j => nI (N 3 j)) (fun j => nI (N 4 j)) (V 5) (V 6) (fun j => nI (N 7 j)) (fun j => nI (N 8 j)) (fun j => nI (N 9 j)) (fun j => nI (N 10 j)) (fun j => nI (N 11 j)) (fun j => nI (N 12 j)) (fun j => nI (N 13 j)) (fun j => be_fr (N 14 j)) (fun j => nI (N 15 j)) (fun j => nI (N 16 j)) (fun j => nI (N 17 j)) (V 18) (fun j => nI (N 19 j)) (fun j => nI (N 20 j)) (fun j => nI (N 21 j)) (fun j => nI (N 22 j)) (V 23) (fun j => nI (N 24 j)) (V 25) (fun j => nI (N 26 j))) (fun _ _ => True) cnt 0 () (by omega) trivial ?_ ?_
  · intro n _ _
    refine pk_le cnt cnt (fun _ => ?_) (fun z => absurd z (by omega)) (by rw [e0]) rfl (by omega) (by omega)
    rw [e7]
    have H' : post (nI 0) (be_cn N V) := H
    unfold be_cn at H'
    rw [e7] at H'
    exact H'
  · intro n i _ hi _ hk
    refine pk_le cnt i (fun z => absurd z (by omega)) (fun _ => pk_le (N 0 1) 0 (fun z => absurd z (by omega)) (fun _ => ?_) rfl rfl (by omega) (by omega)) (by rw [e0]) rfl (by omega) (by omega)
    refine be_checkTr (N := N) (V := V) hB hc8 hcc0 hcc1 hi (j1 i hi) j2 j5 ?_ (nm_r (nI_1 i) (hk () trivial))
    rcases hph with q | q
    · exact Or.inl q
    · exact Or.inr ⟨q.1, q.2 i hi⟩
theorem be_faults1 {cnt W c0 c1 a b : Nat} {am nd : Int32} {s0 : Nat → Int32} {post : Int32 → St2 → Prop} {N : Nat → Nat → Nat} {V : Nat → Nat → Int32} (hC : be_Cs cnt W c0 c1 a b) (h : be_Inv cnt W c0 c1 a b am nd s0 N V) (H : post 0 (be_cn (be_up N 0 7 0) V)) : wpX_faults post (be_cn N V) := by
  obtain ⟨hc1, hc8, hW1, hW6, hcc0, hcc1, hcne, ha, hbb, hab⟩ := hC
  have i2 : be_Inv cnt W c0 c1 a b am nd s0 (be_up N 0 7 0) V := by
    obtain ⟨⟨hB, hTT⟩, ⟨e0, e1, e2, es, hP⟩, j1, j2, j3, j4, j5, hD, hR⟩ := h
    exact ⟨⟨be_B_up hB (by omega), hTT⟩, ⟨e0, e1, e2, es, hP⟩, j1, j2, j3, j4, j5, hD, hR⟩
  obtain ⟨⟨hB, hTT⟩, ⟨e0, e1, e2, es, hP⟩, j1, j2, j3, j4, j5, hD, hR⟩ := h
  unfold wpX_faults be_cn
  refine pk_eq (N 0 1) 1 (fun _ => ?_) (fun z => absurd e1 z) rfl rfl (by omega) (by omega)
  refine pk_loop (σ := Unit) (fun n i _ => wX_faults_15 post n (nI i) (nI ((be_up N 0 7 0) 0 0)) (nI ((be_up N 0 7 0) 0 1)) (nI ((be_up N 0 7 0) 0 2)) (nI ((be_up N 0 7 0) 0 3)) (nI ((be_up N 0 7 0) 0 4)) (V 0 5) (nI ((be_up N 0 7 0) 0 6)) (nI ((be_up N 0 7 0) 0 7)) (V 1) (fun j => nI ((be_up N 0 7 0) 2 j)) (fun j => nI ((be_up N 0 7 0) 3 j)) (fun j => nI ((be_up N 0 7 0) 4 j)) (V 5) (V 6) (fun j => nI ((be_up N 0 7 0) 7 j)) (fun j => nI ((be_up N 0 7 0) 8 j)) (fun j => nI ((be_up N 0 7 0) 9 j)) (fun j => nI ((be_up N 0 7 0) 10 j)) (fun j => nI ((be_up N 0 7 0) 11 j)) (fun j => nI ((be_up N 0 7 0) 12 j)) (fun j => nI ((be_up N 0 7 0) 13 j)) (fun j => be_fr ((be_up N 0 7 0) 14 j)) (fun j => nI ((be_up N 0 7 0) 15 j)) (fun j => nI ((be_up N 0 7 0) 16 j)) (fun j => nI ((be_up N 0 7 0) 17 j)) (V 18) (fun j => nI ((be_up N 0 7 0) 19 j)) (fun j => nI ((be_up N 0 7 0) 20 j)) (fun j => nI ((be_up N 0 7 0) 21 j)) (fun j => nI ((be_up N 0 7 0) 22 j)) (V 23) (fun j => nI ((be_up N 0 7 0) 24 j)) (V 25) (fun j => nI ((be_up N 0 7 0) 26 j))) (fun _ _ => True) W 0 () (by omega) trivial ?_ ?_
  · intro n _ _
    refine pk_le W W (fun _ => ?_) (fun z => absurd z (by omega)) (show nI (N 0 2) = nI W by rw [e2]) rfl (by omega) (by omega)
    exact be_faults36 (N := be_up N 0 7 0) (V := V) (be_B_up hB (by omega)) e0 rfl hc8 hcc0 hcc1 (fun t ht => (j1.2.2 t ht).2) j2 j5 (Or.inl e1) H
  · intro n i _ hi _ hk
    refine pk_le W i (fun z => absurd z (by omega)) (fun _ => ?_) (show nI (N 0 2) = nI W by rw [e2]) rfl (by omega) (by omega)
    exact be_checkWorker (N := be_up N 0 7 0) (V := V) hW6 hc8 i2 hi (nm_r (nI_1 i) (hk () trivial))
/-- after the run -/
theorem be_faults2 {cnt W c0 c1 a b : Nat} {am nd : Int32} {s0 g : Nat → Int32} {post : Int32 → St2 → Prop} {N : Nat → Nat → Nat} {V : Nat → Nat → Int32} (hC : be_Cs cnt W c0 c1 a b) (h : be_Inv cnt W c0 c1 a b am nd s0 N V) (hF : be_AF cnt N) (H : post 0 (be_cn (be_up (be_up N 0 1 2) 0 7 0) (be_vs V 1 g))) : wpX_faults post (be_cn (be_up N 0 1 2) (be_vs V 1 g)) := by
  obtain ⟨hc1, hc8, hW1, hW6, hcc0, hcc1, hcne, ha, hbb, hab⟩ := hC
  obtain ⟨⟨hB, hTT⟩, ⟨e0, e1, e2, es, hP⟩, j1, j2, j3, j4, j5, hD, hR⟩ := h
  unfold wpX_faults be_cn
  refine br_f (show ¬ nI 2 = 1 by decide) ?_
  exact be_faults36 (N := be_up (be_up N 0 1 2) 0 7 0) (V := be_vs V 1 g) (be_B_up (be_B_up hB (by omega)) (by omega)) e0 rfl hc8 hcc0 hcc1 (fun t ht => (j1.2.2 t ht).2) j2 j5 (Or.inr ⟨rfl, hF⟩) H
end
section
/-- what the law keeps: the two cells, one transaction after another -/
def be_lr (am nd l r : Int32) : Nat → Int32 × Int32
  | 0 => (l, r)
  | t + 1 => if (be_lr am nd l r t).1 < nd then be_lr am nd l r t else ((be_lr am nd l r t).1 - am, (be_lr am nd l r t).2 + am)
theorem be_lr_sum (am nd l r : Int32) : ∀ t, (be_lr am nd l r t).1 + (be_lr am nd l r t).2 = l + r := by
  intro t
  induction t with
  | zero => rfl
  | succ t ih =>
    unfold be_lr
    split
    · exact ih
    · rw [← ih]
      show ((be_lr am nd l r t).1 - am) + ((be_lr am nd l r t).2 + am) = (be_lr am nd l r t).1 + (be_lr am nd l r t).2
      generalize (be_lr am nd l r t).1 = x
      generalize (be_lr am nd l r t).2 = y
      grind
/-- a read that holds gave what the cell holds before t -/
theorem be_link {c0 c1 t k : Nat} {v : Int32} {s0 : Nat → Int32} {N : Nat → Nat → Nat} {V : Nat → Nat → Int32} (hr : be_rec c0 c1 s0 N V t k v) (hk : be_RK (N 9) (N 7) (N 8) (N 13) (N 14) (N 15) t k) (hl : N 13 (12 * t + k) = be_ce c0 c1 k) : v = be_vb (be_ce c0 c1 k) s0 (V 6) (N 8) t := by
  obtain ⟨h1, h2, h3⟩ := hr
  obtain ⟨k1, k2⟩ := hk
  rw [hl] at k1 k2
  unfold be_vb
  rw [k1]
  by_cases h0 : N 14 (12 * t + k) = 0
  · rw [if_pos h0]
    exact h2 h0
  · rw [if_neg h0]
    exact ((h3 (N 14 (12 * t + k) - 1) (by omega)).2.2 (k2 h0).2).symm
theorem be_nw_s1 {c t : Nat} {wr : Nat → Nat} (h : wr t / 2 ^ c % 2 = 1) : be_nw c wr (t + 1) = t + 1 := if_pos h
theorem be_nw_s0 {c t : Nat} {wr : Nat → Nat} (h : ¬ wr t / 2 ^ c % 2 = 1) : be_nw c wr (t + 1) = be_nw c wr t := if_neg h
theorem be_nw_none {c : Nat} {wr : Nat → Nat} : ∀ t, (∀ f, f < t → ¬ wr f / 2 ^ c % 2 = 1) → be_nw c wr t = 0 := by
  intro t
  induction t with
  | zero => intro _; rfl
  | succ t ih =>
    intro h
    rw [be_nw_s0 (h t (by omega))]
    exact ih (fun f hf => h f (by omega))
/-- one transaction, if what it reads is known -/
theorem be_val1 {cnt W c0 c1 a b t : Nat} {am nd L R : Int32} {s0 : Nat → Int32} {N : Nat → Nat → Nat} {V : Nat → Nat → Int32} (h : be_Inv cnt W c0 c1 a b am nd s0 N V) (hF : be_AF cnt N) (ht : t < cnt) (hL : be_vb c0 s0 (V 6) (N 8) t = L) (hR : be_vb c1 s0 (V 6) (N 8) t = R) :
    (L < nd ∧ N 16 t = 1 ∧ N 8 t = 0) ∨ (¬ L < nd ∧ N 16 t = 0 ∧ N 8 t = 2 ^ c0 ||| 2 ^ c1 ∧ V 6 (8 * c0 + t) = L - am ∧ V 6 (8 * c1 + t) = R + am ∧ N 17 t = (if t + 1 = cnt then 3 else 2) ∧ V 18 (12 * t + 0) = L - am ∧ V 18 (12 * t + 1) = R + am ∧ (t + 1 = cnt → V 18 (12 * t + 2) = am * (R + am))) := by
  obtain ⟨⟨hB, hTT⟩, ⟨e0, e1, e2, es, hP⟩, j1, j2, j3, j4, j5, hD, hRn⟩ := h
  have hf := hF t ht
  obtain ⟨v1, r1, hd⟩ := hD t ht hf.1
  have h5 := (j5 t ht).2.2
  rcases hd with ⟨a1, a2, a3, a4⟩ | ⟨a1, a2, a3, a4, v2, r2, b1, b2, b3, b4, b5, b6, b7, b8⟩
  · have l1 := be_link r1 (hf.2 0 (by omega)) (h5 0 (by omega)).1
    have l1' : v1 = L := l1.trans hL
    rw [l1'] at a1
    exact Or.inl ⟨a1, a2, a3⟩
  · have l1 := be_link r1 (hf.2 0 (by omega)) (h5 0 (by omega)).1
    have l2 := be_link r2 (hf.2 1 (by omega)) (h5 1 (by omega)).1
    have l1' : v1 = L := l1.trans hL
    have l2' : v2 = R := l2.trans hR
    rw [l1'] at a1 b1 b6
    rw [l2'] at b2 b7 b8
    exact Or.inr ⟨a1, a2, a3, b1, b2, b5, b6, b7, b8⟩
theorem be_vals {cnt W c0 c1 a b : Nat} {am nd : Int32} {s0 : Nat → Int32} {N : Nat → Nat → Nat} {V : Nat → Nat → Int32} (h : be_Inv cnt W c0 c1 a b am nd s0 N V) (hF : be_AF cnt N) : ∀ t, t ≤ cnt → be_vb c0 s0 (V 6) (N 8) t = (be_lr am nd (s0 c0) (s0 c1) t).1 ∧ be_vb c1 s0 (V 6) (N 8) t = (be_lr am nd (s0 c0) (s0 c1) t).2 := by
  intro t
  induction t with
  | zero => exact fun _ => ⟨rfl, rfl⟩
  | succ t ih =>
    intro ht
    obtain ⟨i1, i2⟩ := ih (by omega)
    have m0 : (2 ^ c0 ||| 2 ^ c1) / 2 ^ c0 % 2 = 1 := (be_M_bit c0 c1 c0).mpr (Or.inl rfl)
    have m1 : (2 ^ c0 ||| 2 ^ c1) / 2 ^ c1 % 2 = 1 := (be_M_bit c0 c1 c1).mpr (Or.inr rfl)
    rcases be_val1 h hF (by omega) i1 i2 with ⟨q1, q2, q3⟩ | ⟨q1, q2, q3, q4, q5, q6⟩
    · have e : be_lr am nd (s0 c0) (s0 c1) (t + 1) = be_lr am nd (s0 c0) (s0 c1) t := if_pos q1
      rw [e, ← i1, ← i2]
      unfold be_vb
      rw [be_nw_s0 (c := c0) (by rw [q3]; exact be_bit0 c0), be_nw_s0 (c := c1) (by rw [q3]; exact be_bit0 c1)]
      exact ⟨rfl, rfl⟩
    · have e : be_lr am nd (s0 c0) (s0 c1) (t + 1) = ((be_lr am nd (s0 c0) (s0 c1) t).1 - am, (be_lr am nd (s0 c0) (s0 c1) t).2 + am) := if_neg q1
      rw [e]
      unfold be_vb
      rw [be_nw_s1 (c := c0) (by rw [q3]; exact m0), be_nw_s1 (c := c1) (by rw [q3]; exact m1), if_neg (by omega), if_neg (by omega), Nat.add_sub_cancel]
      exact ⟨q4, q5⟩
/-- the other cells stay -/
theorem be_val0 {cnt W c0 c1 a b c : Nat} {am nd : Int32} {s0 : Nat → Int32} {N : Nat → Nat → Nat} {V : Nat → Nat → Int32} (h : be_Inv cnt W c0 c1 a b am nd s0 N V) (h0 : c ≠ c0) (h1 : c ≠ c1) : be_vb c s0 (V 6) (N 8) cnt = s0 c := by
  have j5 := h.2.2.2.2.2.2.1
  unfold be_vb
  rw [if_pos]
  refine be_nw_none cnt (fun f hf hb => ?_)
  rcases (j5 f hf).2.1 with q | q
  · rw [q] at hb
    exact be_bit0 c hb
  · rw [q, be_M_bit] at hb
    omega
/-- the digest -/
def be_dg (s : Nat → Int32) : Nat → Int32
  | 0 => 0
  | i + 1 => be_dg s i + (nI i + 1) * s i
theorem be_dg_eq {s : Nat → Int32} {c0 c1 : Nat} (hne : c0 ≠ c1) (hz : ∀ j, j < 16 → j ≠ c0 → j ≠ c1 → s j = 0) : ∀ i, i ≤ 16 → be_dg s i = (if c0 < i then (nI c0 + 1) * s c0 else 0) + (if c1 < i then (nI c1 + 1) * s c1 else 0) := by
  intro i
  induction i with
  | zero => intro _; rw [if_neg (by omega), if_neg (by omega)]; rfl
  | succ i ih =>
    intro hi
    unfold be_dg
    rw [ih (by omega)]
    by_cases e0 : i = c0
    · subst e0
      rw [if_neg (Nat.lt_irrefl i), if_pos (Nat.lt_succ_self i)]
      by_cases q : c1 < i
      · rw [if_pos q, if_pos (by omega)]
        generalize (nI i + 1) * s i = x
        generalize (nI c1 + 1) * s c1 = y
        grind
      · rw [if_neg q, if_neg (by omega)]
        generalize (nI i + 1) * s i = x
        grind
    · by_cases e1 : i = c1
      · subst e1
        rw [if_neg (Nat.lt_irrefl i), if_pos (Nat.lt_succ_self i)]
        by_cases q : c0 < i
        · rw [if_pos q, if_pos (by omega)]
          generalize (nI i + 1) * s i = x
          generalize (nI c0 + 1) * s c0 = y
          grind
        · rw [if_neg q, if_neg (by omega)]
          generalize (nI i + 1) * s i = x
          grind
      · rw [hz i (by omega) e0 e1]
        have h0 : (if c0 < i + 1 then (nI c0 + 1) * s c0 else 0) = (if c0 < i then (nI c0 + 1) * s c0 else 0) := by
          by_cases q : c0 < i
          · rw [if_pos q, if_pos (by omega)]
          · rw [if_neg q, if_neg (by omega)]
        have h1 : (if c1 < i + 1 then (nI c1 + 1) * s c1 else 0) = (if c1 < i then (nI c1 + 1) * s c1 else 0) := by
          by_cases q : c1 < i
          · rw [if_pos q, if_pos (by omega)]
          · rw [if_neg q, if_neg (by omega)]
        rw [h0, h1]
        generalize (if c0 < i then (nI c0 + 1) * s c0 else 0) = x
        generalize (if c1 < i then (nI c1 + 1) * s c1 else 0) = y
        grind
end
section
theorem be_cell {post : Int32 → Prop} {N : Nat → Nat → Nat} {V : Nat → Nat → Int32} {c : Nat} (hc : c < 16) (H : post (V 1 c)) : wpX_cell post (be_cn N V) (nI c) := by
  unfold wpX_cell wpX_isCell be_cn
  dsimp only
  rw [nI_clamp (show c < 2 ^ 31 by omega)]
  exact br_f (nI_pos (by omega)) (pk_le 16 c (fun h => absurd h (by omega)) (fun _ => br_f (by decide) ⟨pk_in c 16 hc, H⟩))
theorem be_digest {post : Int32 → Prop} {N : Nat → Nat → Nat} {V : Nat → Nat → Int32} (H : post (be_dg (V 1) 16)) : wpX_digest post (be_cn N V) := by
  unfold wpX_digest be_cn
  dsimp only
  refine pk_loop (σ := Unit) (fun n i _ => wX_digest_4 post (nI (N 0 0)) (nI (N 0 1)) (nI (N 0 2)) (nI (N 0 3)) (nI (N 0 4)) (V 0 5) (nI (N 0 6)) (nI (N 0 7)) (V 1) (fun j => nI (N 2 j)) (fun j => nI (N 3 j)) (fun j => nI (N 4 j)) (V 5) (V 6) (fun j => nI (N 7 j)) (fun j => nI (N 8 j)) (fun j => nI (N 9 j)) (fun j => nI (N 10 j)) (fun j => nI (N 11 j)) (fun j => nI (N 12 j)) (fun j => nI (N 13 j)) (fun j => be_fr (N 14 j)) (fun j => nI (N 15 j)) (fun j => nI (N 16 j)) (fun j => nI (N 17 j)) (V 18) (fun j => nI (N 19 j)) (fun j => nI (N 20 j)) (fun j => nI (N 21 j)) (fun j => nI (N 22 j)) (V 23) (fun j => nI (N 24 j)) (V 25) (fun j => nI (N 26 j)) n (be_dg (V 1) i) (nI i)) (fun _ _ => True) 16 0 () (by omega) trivial ?_ ?_
  · intro n _ _
    exact pk_le 16 16 (fun _ => H) (fun h => absurd h (by omega))
  · intro n i _ hi _ hk
    exact pk_le 16 i (fun h => absurd h (by omega)) (fun _ => ⟨pk_in i 16 hi, nm_r (by rw [nI_clamp (by omega)]; rfl) (nm_r (nI_1 i) (hk () trivial))⟩)
theorem be_secret {post : Int32 → Prop} {N : Nat → Nat → Nat} {V : Nat → Nat → Int32} {t : Nat} (ht : t < N 0 0) (hc : N 0 0 ≤ 8) (h2 : N 0 1 = 2) (H : post 0) : wpX_secret post (be_cn N V) (nI t) := by
  unfold wpX_secret be_cn
  exact br_f (nI_pos (by omega)) (pk_lt t (N 0 0) (fun _ => pk_eq (N 0 1) 2 (fun _ => H) (fun z => absurd h2 z) rfl rfl (by omega) (by omega)) (fun z => absurd z (by omega)))
theorem be_result {post : Int32 → Prop} {N : Nat → Nat → Nat} {V : Nat → Nat → Int32} {t : Nat} (hB : ∀ f j, N f j < 1048576) (ht : t < N 0 0) (hc : N 0 0 ≤ 8) (h2 : N 0 1 = 2) (H1 : N 16 t = 0 → post 1) (H0 : ¬ N 16 t = 0 → post 0) : wpX_result post (be_cn N V) (nI t) := by
  have b := hB 16 t
  unfold wpX_result be_cn
  exact be_secret (N := N) (V := V) ht hc h2 (br_t (by decide) ⟨pk_in t 8 (by omega), pk_eq (N 16 t) 0 H1 H0 (by rw [nI_clamp (by omega)]) rfl (by omega) (by omega)⟩)
theorem be_outs {post : Int32 → Prop} {N : Nat → Nat → Nat} {V : Nat → Nat → Int32} {t : Nat} (hB : ∀ f j, N f j < 1048576) (ht : t < N 0 0) (hc : N 0 0 ≤ 8) (h2 : N 0 1 = 2) (H1 : N 16 t = 0 → post (nI (N 17 t))) (H0 : ¬ N 16 t = 0 → post 0) : wpX_outs post (be_cn N V) (nI t) := by
  have b := hB 16 t
  unfold wpX_outs be_cn
  refine be_secret (N := N) (V := V) ht hc h2 (br_t (by decide) ⟨pk_in t 8 (by omega), pk_eq (N 16 t) 0 (fun z => ⟨pk_in t 8 (by omega), ?_⟩) H0 (by rw [nI_clamp (by omega)]) rfl (by omega) (by omega)⟩)
  rw [nI_clamp (show t < 2 ^ 31 by omega)]
  exact H1 z
theorem be_out {post : Int32 → Prop} {N : Nat → Nat → Nat} {V : Nat → Nat → Int32} {t k : Nat} (hB : ∀ f j, N f j < 1048576) (ht : t < N 0 0) (hc : N 0 0 ≤ 8) (h2 : N 0 1 = 2) (hk : k < 12) (H1 : N 16 t = 0 → k < N 17 t → post (V 18 (12 * t + k))) (H0 : ¬ (N 16 t = 0 ∧ k < N 17 t) → post 0) : wpX_out post (be_cn N V) (nI t) (nI k) := by
  have b := hB 17 t
  unfold wpX_out be_cn
  refine br_f (nI_pos (by omega)) (be_outs (N := N) (V := V) hB ht hc h2 (fun z => pk_le (N 17 t) k (fun y => H0 (fun q => by omega)) (fun y => ?_) rfl rfl (by omega) (by omega)) (fun z => br_t (nI_pos' (by omega)) (H0 (fun q => z q.1))))
  have e : (12 : Int32) * nI t + nI k = nI (12 * t + k) := be_mulAdd 12 t k
  rw [e, nI_clamp (show 12 * t + k < 2 ^ 31 by omega)]
  exact ⟨be_in (by omega), H1 z y⟩
theorem be_stored {post : Int32 → Prop} {N : Nat → Nat → Nat} {V : Nat → Nat → Int32} {t : Nat} (ht : t < N 0 0) (hc : N 0 0 ≤ 8) (h2 : N 0 1 = 2) (H : post (nI (N 8 t))) : wpX_stored post (be_cn N V) (nI t) := by
  unfold wpX_stored be_cn
  refine be_secret (N := N) (V := V) ht hc h2 (br_t (by decide) ⟨pk_in t 8 (by omega), ?_⟩)
  rw [nI_clamp (show t < 2 ^ 31 by omega)]
  exact H
theorem be_poke {post : Int32 → St2 → Prop} {N : Nat → Nat → Nat} {V : Nat → Nat → Int32} {c : Nat} {x : Int32} (h1 : N 0 1 = 0) (hc : c < 16) (H : post 0 (be_cn N (be_vp V 1 c x))) : wpX_poke post (be_cn N V) (nI c) x := by
  unfold wpX_poke wpX_isCell be_cn
  dsimp only
  refine pk_eq (N 0 1) 1 (fun z => absurd z (by omega)) (fun _ => br_f (nI_pos (by omega)) (pk_le 16 c (fun h => absurd h (by omega)) (fun _ => br_f (by decide) ⟨pk_in c 16 hc, be_sv c x H⟩))) rfl rfl (by omega) (by omega)
theorem be_begin {post : Int32 → St2 → Prop} {N : Nat → Nat → Nat} {V : Nat → Nat → Int32} (h1 : N 0 1 = 0) (h8 : N 0 0 < 8) (H : ∀ r, post r (be_cn (be_up (be_up N 2 (N 0 0) 0) 0 0 (N 0 0 + 1)) V)) : wpX_begin post (be_cn N V) := by
  unfold wpX_begin be_cn
  refine pk_eq (N 0 1) 0 (fun _ => pk_lt (N 0 0) 8 (fun _ => ⟨pk_in (N 0 0) 8 h8, be_st (N 0 0) 0 (nm_r (nI_1 _) (H _))⟩) (fun z => absurd z (by omega))) (fun z => absurd h1 z) rfl rfl (by omega) (by omega)
theorem be_beginF {post : Int32 → St2 → Prop} {N : Nat → Nat → Nat} {V : Nat → Nat → Int32} (h1 : N 0 1 = 0) (h8 : N 0 0 = 8) (H : post (-2) (be_cn N V)) : wpX_begin post (be_cn N V) := by
  unfold wpX_begin be_cn
  refine pk_eq (N 0 1) 0 (fun _ => pk_lt (N 0 0) 8 (fun z => absurd z (by omega)) (fun _ => H) rfl rfl (by omega) (by omega)) (fun z => absurd h1 z) rfl rfl (by omega) (by omega)
theorem be_add {post : Int32 → St2 → Prop} {N : Nat → Nat → Nat} {V : Nat → Nat → Int32} {t l op pl : Nat} {p0 p1 x : Int32} (h1 : N 0 1 = 0) (h0 : N 0 0 = t + 1) (ht : t < 8) (hl : N 2 t = l) (hl2 : l < 12) (ho : op ≤ 11) (hp : pl ≤ 15) (eo : p0 = nI op) (ep : p1 = nI pl)
    (H : post (nI l) (be_cn (be_up (be_up (be_up N 3 (12 * t + l) op) 4 (12 * t + l) pl) 2 t (l + 1)) (be_vp V 5 (12 * t + l) x))) : wpX_add post (be_cn N V) p0 p1 x := by
  subst eo ep
  unfold wpX_add be_cn
  dsimp only
  rw [h0]
  have ee : nI (t + 1) - 1 = nI t := nI_pred t
  refine pk_eq (N 0 1) 0 (fun _ => br_f (nI_pos (by omega)) (pk_lt 11 op (fun z => absurd z (by omega)) (fun _ => br_f (nI_pos (by omega)) (pk_le pl 15 (fun _ => pk_eq (t + 1) 0 (fun z => absurd z (by omega)) (fun _ => nm_r ee ?_)) (fun z => absurd z (by omega)))))) (fun z => absurd h1 z) rfl rfl (by omega) (by omega)
  rw [nI_clamp (show t < 2 ^ 31 by omega), hl]
  have e3 : (12 : Int32) * nI t + nI l = nI (12 * t + l) := be_mulAdd 12 t l
  refine ⟨pk_in t 8 ht, pk_lt l 12 (fun _ => ⟨pk_in t 8 ht, nm_r e3 ⟨be_in (by omega), be_st (12 * t + l) op ⟨be_in (by omega), be_st (12 * t + l) pl ⟨be_in (by omega), be_sv (12 * t + l) x ⟨pk_in t 8 ht, pk_in t 8 ht, nm_r (e' := fun j => nI (be_u (N 2) t (l + 1) j)) (by rw [nI_1, be_ust]) ⟨pk_in t 8 ht, ?_⟩⟩⟩⟩⟩⟩) (fun z => absurd z (by omega))⟩
  have er : nI (be_u (N 2) t (l + 1) t) - 1 = nI l := by
    rw [be_us]
    exact nI_pred l
  rw [er]
  have H' := H
  unfold be_cn at H'
  have e00 : be_up (be_up (be_up N 3 (12 * t + l) op) 4 (12 * t + l) pl) 2 t (l + 1) 0 0 = t + 1 := h0
  rw [e00] at H'
  exact H'
theorem be_addF {post : Int32 → St2 → Prop} {N : Nat → Nat → Nat} {V : Nat → Nat → Int32} {t op pl : Nat} {p0 p1 x : Int32} (h1 : N 0 1 = 0) (h0 : N 0 0 = t + 1) (ht : t < 8) (hl : N 2 t = 12) (ho : op ≤ 11) (hp : pl ≤ 15) (eo : p0 = nI op) (ep : p1 = nI pl)
    (H : post (-2) (be_cn N V)) : wpX_add post (be_cn N V) p0 p1 x := by
  subst eo ep
  unfold be_cn at H
  rw [h0] at H
  unfold wpX_add be_cn
  dsimp only
  rw [h0]
  have ee : nI (t + 1) - 1 = nI t := nI_pred t
  refine pk_eq (N 0 1) 0 (fun _ => br_f (nI_pos (by omega)) (pk_lt 11 op (fun z => absurd z (by omega)) (fun _ => br_f (nI_pos (by omega)) (pk_le pl 15 (fun _ => pk_eq (t + 1) 0 (fun z => absurd z (by omega)) (fun _ => nm_r ee ?_)) (fun z => absurd z (by omega)))))) (fun z => absurd h1 z) rfl rfl (by omega) (by omega)
  rw [nI_clamp (show t < 2 ^ 31 by omega), hl]
  exact ⟨pk_in t 8 ht, pk_lt 12 12 (fun z => absurd z (by omega)) (fun _ => H)⟩
end
section
/-- the instructions that the law adds to transaction t -/
def be_prog (c0 c1 a b : Nat) (am nd : Int32) (t : Nat) : Nat → Nat × Nat × Int32
  | 0 => (3, 5 * a, nI c0)
  | 1 => (7, 4 * a + b, nd)
  | 2 => (0, 5 * b, am)
  | 3 => (2, 4 * a + b, 9)
  | 4 => (4, 4 * a, nI c0)
  | 5 => (8, 4 * a, 1)
  | 6 => (3, 4 * a + b, nI c1 + 16 * nI t)
  | 7 => (1, 4 * a + b, 0)
  | 8 => (4, 5 * a, nI c1 - 32)
  | 9 => (8, 4 * a, 0)
  | 10 => (5, 4 * b + a, 0)
  | 11 => (8, 4 * b, 0)
  | _ => (0, 0, 0)
def be_ins (c0 c1 a b : Nat) (am nd : Int32) (N : Nat → Nat → Nat) (V : Nat → Nat → Int32) (t i : Nat) : Prop := N 3 (12 * t + i) = (be_prog c0 c1 a b am nd t i).1 ∧ N 4 (12 * t + i) = (be_prog c0 c1 a b am nd t i).2.1 ∧ V 5 (12 * t + i) = (be_prog c0 c1 a b am nd t i).2.2
/-- t transactions stand -/
def be_Bl (W c0 c1 a b : Nat) (am nd : Int32) (s0 : Nat → Int32) (t : Nat) (N : Nat → Nat → Nat) (V : Nat → Nat → Int32) : Prop :=
  (∀ f j, N f j < 1048576) ∧ be_Z N ∧ N 0 0 = t ∧ N 0 1 = 0 ∧ N 0 2 = W ∧ V 1 = s0 ∧ ∀ j, j < t → N 2 j = 10 ∧ ∀ i, i < 10 → be_ins c0 c1 a b am nd N V j i
/-- t transactions stand, the next has l instructions -/
def be_bs (W c0 c1 a b : Nat) (am nd : Int32) (s0 : Nat → Int32) (t l : Nat) (N : Nat → Nat → Nat) (V : Nat → Nat → Int32) : Prop :=
  (∀ f j, N f j < 1048576) ∧ be_Z N ∧ N 0 0 = t + 1 ∧ N 0 1 = 0 ∧ N 0 2 = W ∧ V 1 = s0 ∧ (∀ j, j < t → N 2 j = 10 ∧ ∀ i, i < 10 → be_ins c0 c1 a b am nd N V j i) ∧ N 2 t = l ∧ ∀ i, i < l → be_ins c0 c1 a b am nd N V t i
theorem be_beginB {W c0 c1 a b t : Nat} {am nd : Int32} {s0 : Nat → Int32} {post : Int32 → St2 → Prop} {N : Nat → Nat → Nat} {V : Nat → Nat → Int32} (ht : t < 8) (h : be_Bl W c0 c1 a b am nd s0 t N V)
    (H : ∀ r N', be_bs W c0 c1 a b am nd s0 t 0 N' V → post r (be_cn N' V)) : wpX_begin post (be_cn N V) := by
  obtain ⟨hB, hz, e0, e1, e2, es, hP⟩ := h
  refine be_begin e1 (by omega) (fun r => H r _ ?_)
  refine ⟨be_B_up (be_B_up hB (by omega)) (by omega), hz, ?_, e1, e2, es, fun j hj => ⟨?_, (hP j hj).2⟩, ?_, fun i hi => absurd hi (by omega)⟩
  · show N 0 0 + 1 = t + 1
    omega
  · show be_u (N 2) (N 0 0) 0 j = 10
    rw [be_un (by omega)]
    exact (hP j hj).1
  · show be_u (N 2) (N 0 0) 0 t = 0
    rw [← e0, be_us]
theorem be_addB {W c0 c1 a b t l op pl : Nat} {am nd p0 p1 x : Int32} {s0 : Nat → Int32} {post : Int32 → St2 → Prop} {N : Nat → Nat → Nat} {V : Nat → Nat → Int32} (ht : t < 8) (h : be_bs W c0 c1 a b am nd s0 t l N V) (hl : l < 12) (ho : op ≤ 11) (hp : pl ≤ 15) (eo : p0 = nI op) (ep : p1 = nI pl) (hpr : be_prog c0 c1 a b am nd t l = (op, pl, x))
    (H : ∀ N' V', be_bs W c0 c1 a b am nd s0 t (l + 1) N' V' → post (nI l) (be_cn N' V')) : wpX_add post (be_cn N V) p0 p1 x := by
  obtain ⟨hB, hz, e0, e1, e2, es, hP, hlen, hI⟩ := h
  refine be_add e1 e0 ht hlen hl ho hp eo ep (H _ _ ?_)
  have old : ∀ j i, i < 12 → (12 * j + i) ≠ 12 * t + l → be_ins c0 c1 a b am nd N V j i → be_ins c0 c1 a b am nd (be_up (be_up (be_up N 3 (12 * t + l) op) 4 (12 * t + l) pl) 2 t (l + 1)) (be_vp V 5 (12 * t + l) x) j i := by
    intro j i _ hne hi
    exact ⟨(be_un hne).trans hi.1, (be_un hne).trans hi.2.1, (pk_un hne).trans hi.2.2⟩
  refine ⟨be_B_up (be_B_up (be_B_up hB (by omega)) (by omega)) (by omega), hz, e0, e1, e2, es, fun j hj => ⟨?_, fun i hi => old j i (by omega) (by omega) ((hP j hj).2 i hi)⟩, be_us, fun i hi => ?_⟩
  · show be_u (N 2) t (l + 1) j = 10
    rw [be_un (by omega)]
    exact (hP j hj).1
  · by_cases e : i = l
    · subst e
      unfold be_ins
      rw [hpr]
      exact ⟨be_us, be_us, pk_us⟩
    · exact old t i (by omega) (by omega) (hI i (by omega))
/-- the block stands: many transactions, the last with two more instructions -/
theorem be_PT_of {W c0 c1 a b t : Nat} {am nd : Int32} {s0 : Nat → Int32} {N : Nat → Nat → Nat} {V : Nat → Nat → Int32} (ht : t < 8) (hc0 : c0 < 16) (hc1 : c1 < 16) (h : be_bs W c0 c1 a b am nd s0 t 12 N V) : ∀ j, j < t + 1 → be_PT (t + 1) c0 c1 a b am nd N V j := by
  obtain ⟨hB, hz, e0, e1, e2, es, hP, hlen, hI⟩ := h
  intro j hj
  have hins : ∀ i, i < 10 → be_ins c0 c1 a b am nd N V j i := by
    rcases Nat.lt_or_ge j t with q | q
    · exact (hP j q).2
    · have : j = t := by omega
      subst this
      exact fun i hi => hI i (by omega)
  have k0 : nI c0 &&& 15 = nI c0 := by
    rw [pk_andN (by omega) 4 (by decide), Nat.mod_eq_of_lt (by omega)]
  have k6 : (nI c1 + 16 * nI j) &&& 15 = nI c1 := by
    have e : nI c1 + 16 * nI j = nI (c1 + 16 * j) := by
      rw [show (16 : Int32) = nI 16 from rfl, pk_mul, nI_add]
    rw [e, pk_andN (by omega) 4 (by decide)]
    exact congrArg nI (by omega)
  have k8 : (nI c1 - 32) &&& 15 = nI c1 := by
    have : ∀ c, c < 16 → (nI c - 32) &&& 15 = nI c := by decide +kernel
    exact this c1 hc1
  have i0 := hins 0 (by omega)
  have i1 := hins 1 (by omega)
  have i2 := hins 2 (by omega)
  have i3 := hins 3 (by omega)
  have i4 := hins 4 (by omega)
  have i5 := hins 5 (by omega)
  have i6 := hins 6 (by omega)
  have i7 := hins 7 (by omega)
  have i8 := hins 8 (by omega)
  have i9 := hins 9 (by omega)
  refine ⟨?_, ⟨i0.1, i0.2.1, ?_⟩, ⟨i1.1, i1.2.1, i1.2.2⟩, ⟨i2.1, i2.2.1, i2.2.2⟩, ⟨i3.1, i3.2.1⟩, ⟨i4.1, i4.2.1, ?_⟩, ⟨i5.1, i5.2.1⟩, ⟨i6.1, i6.2.1, ?_⟩, ⟨i7.1, i7.2.1⟩, ⟨i8.1, i8.2.1, ?_⟩, ⟨i9.1, i9.2.1⟩, fun el => ?_⟩
  · rcases Nat.lt_or_ge j t with q | q
    · rw [if_neg (by omega)]
      exact (hP j q).1
    · have : j = t := by omega
      subst this
      rw [if_pos rfl]
      exact hlen
  · rw [i0.2.2]
    exact k0
  · rw [i4.2.2]
    exact k0
  · rw [i6.2.2]
    exact k6
  · rw [i8.2.2]
    exact k8
  · have : j = t := by omega
    subst this
    have i10 := hI 10 (by omega)
    have i11 := hI 11 (by omega)
    exact ⟨i10.1, i10.2.1, i11.1, i11.2.1⟩
/-- the last loop of the law -/
theorem be_law499 {cnt W c0 c1 a b mc ms kc ks : Nat} {am nd l0 : Int32} {s0 g : Nat → Int32} {post : Int32 → St0 → Prop} {N : Nat → Nat → Nat} {V : Nat → Nat → Int32} (hC : be_Cs cnt W c0 c1 a b) (h : be_Inv cnt W c0 c1 a b am nd s0 N V) (hF : be_AF cnt N) (hg : ∀ c, c < 16 → g c = be_vb c s0 (V 6) (N 8) cnt)
    (hs0 : s0 c0 = l0) (hs1 : s0 c1 = 5) (hsz : ∀ j, j ≠ c0 → j ≠ c1 → s0 j = 0) (Hp : post 1 ()) :
    ∃ fu, wL_lawOf_499 post mc ms (nI c0) (nI c1) l0 am nd (nI cnt) (nI (be_nf (N 16) cnt)) kc ks (nI ((be_up N 0 1 2) 0 0)) (nI ((be_up N 0 1 2) 0 1)) (nI ((be_up N 0 1 2) 0 2)) (nI ((be_up N 0 1 2) 0 3)) (nI ((be_up N 0 1 2) 0 4)) ((be_vs V 1 g) 0 5) (nI ((be_up N 0 1 2) 0 6)) (nI ((be_up N 0 1 2) 0 7)) ((be_vs V 1 g) 1) (fun j => nI ((be_up N 0 1 2) 2 j)) (fun j => nI ((be_up N 0 1 2) 3 j)) (fun j => nI ((be_up N 0 1 2) 4 j)) ((be_vs V 1 g) 5) ((be_vs V 1 g) 6) (fun j => nI ((be_up N 0 1 2) 7 j)) (fun j => nI ((be_up N 0 1 2) 8 j)) (fun j => nI ((be_up N 0 1 2) 9 j)) (fun j => nI ((be_up N 0 1 2) 10 j)) (fun j => nI ((be_up N 0 1 2) 11 j)) (fun j => nI ((be_up N 0 1 2) 12 j)) (fun j => nI ((be_up N 0 1 2) 13 j)) (fun j => be_fr ((be_up N 0 1 2) 14 j)) (fun j => nI ((be_up N 0 1 2) 15 j)) (fun j => nI ((be_up N 0 1 2) 16 j)) (fun j => nI ((be_up N 0 1 2) 17 j)) ((be_vs V 1 g) 18) (fun j => nI ((be_up N 0 1 2) 19 j)) (fun j => nI ((be_up N 0 1 2) 20 j)) (fun j => nI ((be_up N 0 1 2) 21 j)) (fun j => nI ((be_up N 0 1 2) 22 j)) ((be_vs V 1 g) 23) (fun j => nI ((be_up N 0 1 2) 24 j)) ((be_vs V 1 g) 25) (fun j => nI ((be_up N 0 1 2) 26 j)) fu l0 5 0 0 := by
  have i1 := h
  have hCc := hC
  obtain ⟨hc1, hc8, hW1, hW6, hcc0, hcc1, hcne, ha, hbb, hab⟩ := hC
  obtain ⟨⟨hB, hTT⟩, ⟨e0, e1, e2, es, hP⟩, j1, j2, j3, j4, j5, hD, hR⟩ := h
  have hB2 : ∀ f j, be_up N 0 1 2 f j < 1048576 := be_B_up hB (by omega)
  have start : ∀ n, wL_lawOf_499 post mc ms (nI c0) (nI c1) l0 am nd (nI cnt) (nI (be_nf (N 16) cnt)) kc ks (nI ((be_up N 0 1 2) 0 0)) (nI ((be_up N 0 1 2) 0 1)) (nI ((be_up N 0 1 2) 0 2)) (nI ((be_up N 0 1 2) 0 3)) (nI ((be_up N 0 1 2) 0 4)) ((be_vs V 1 g) 0 5) (nI ((be_up N 0 1 2) 0 6)) (nI ((be_up N 0 1 2) 0 7)) ((be_vs V 1 g) 1) (fun j => nI ((be_up N 0 1 2) 2 j)) (fun j => nI ((be_up N 0 1 2) 3 j)) (fun j => nI ((be_up N 0 1 2) 4 j)) ((be_vs V 1 g) 5) ((be_vs V 1 g) 6) (fun j => nI ((be_up N 0 1 2) 7 j)) (fun j => nI ((be_up N 0 1 2) 8 j)) (fun j => nI ((be_up N 0 1 2) 9 j)) (fun j => nI ((be_up N 0 1 2) 10 j)) (fun j => nI ((be_up N 0 1 2) 11 j)) (fun j => nI ((be_up N 0 1 2) 12 j)) (fun j => nI ((be_up N 0 1 2) 13 j)) (fun j => be_fr ((be_up N 0 1 2) 14 j)) (fun j => nI ((be_up N 0 1 2) 15 j)) (fun j => nI ((be_up N 0 1 2) 16 j)) (fun j => nI ((be_up N 0 1 2) 17 j)) ((be_vs V 1 g) 18) (fun j => nI ((be_up N 0 1 2) 19 j)) (fun j => nI ((be_up N 0 1 2) 20 j)) (fun j => nI ((be_up N 0 1 2) 21 j)) (fun j => nI ((be_up N 0 1 2) 22 j)) ((be_vs V 1 g) 23) (fun j => nI ((be_up N 0 1 2) 24 j)) ((be_vs V 1 g) 25) (fun j => nI ((be_up N 0 1 2) 26 j)) n (be_lr am nd (s0 c0) (s0 c1) 0).1 (be_lr am nd (s0 c0) (s0 c1) 0).2 (nI (be_nf (N 16) 0)) (nI 0) → wL_lawOf_499 post mc ms (nI c0) (nI c1) l0 am nd (nI cnt) (nI (be_nf (N 16) cnt)) kc ks (nI ((be_up N 0 1 2) 0 0)) (nI ((be_up N 0 1 2) 0 1)) (nI ((be_up N 0 1 2) 0 2)) (nI ((be_up N 0 1 2) 0 3)) (nI ((be_up N 0 1 2) 0 4)) ((be_vs V 1 g) 0 5) (nI ((be_up N 0 1 2) 0 6)) (nI ((be_up N 0 1 2) 0 7)) ((be_vs V 1 g) 1) (fun j => nI ((be_up N 0 1 2) 2 j)) (fun j => nI ((be_up N 0 1 2) 3 j)) (fun j => nI ((be_up N 0 1 2) 4 j)) ((be_vs V 1 g) 5) ((be_vs V 1 g) 6) (fun j => nI ((be_up N 0 1 2) 7 j)) (fun j => nI ((be_up N 0 1 2) 8 j)) (fun j => nI ((be_up N 0 1 2) 9 j)) (fun j => nI ((be_up N 0 1 2) 10 j)) (fun j => nI ((be_up N 0 1 2) 11 j)) (fun j => nI ((be_up N 0 1 2) 12 j)) (fun j => nI ((be_up N 0 1 2) 13 j)) (fun j => be_fr ((be_up N 0 1 2) 14 j)) (fun j => nI ((be_up N 0 1 2) 15 j)) (fun j => nI ((be_up N 0 1 2) 16 j)) (fun j => nI ((be_up N 0 1 2) 17 j)) ((be_vs V 1 g) 18) (fun j => nI ((be_up N 0 1 2) 19 j)) (fun j => nI ((be_up N 0 1 2) 20 j)) (fun j => nI ((be_up N 0 1 2) 21 j)) (fun j => nI ((be_up N 0 1 2) 22 j)) ((be_vs V 1 g) 23) (fun j => nI ((be_up N 0 1 2) 24 j)) ((be_vs V 1 g) 25) (fun j => nI ((be_up N 0 1 2) 26 j)) n l0 5 0 0 := by
    intro n hn
    have q1 : (be_lr am nd (s0 c0) (s0 c1) 0).1 = l0 := hs0
    have q2 : (be_lr am nd (s0 c0) (s0 c1) 0).2 = 5 := hs1
    rw [q1, q2] at hn
    exact hn
  have main : ∃ fu, wL_lawOf_499 post mc ms (nI c0) (nI c1) l0 am nd (nI cnt) (nI (be_nf (N 16) cnt)) kc ks (nI ((be_up N 0 1 2) 0 0)) (nI ((be_up N 0 1 2) 0 1)) (nI ((be_up N 0 1 2) 0 2)) (nI ((be_up N 0 1 2) 0 3)) (nI ((be_up N 0 1 2) 0 4)) ((be_vs V 1 g) 0 5) (nI ((be_up N 0 1 2) 0 6)) (nI ((be_up N 0 1 2) 0 7)) ((be_vs V 1 g) 1) (fun j => nI ((be_up N 0 1 2) 2 j)) (fun j => nI ((be_up N 0 1 2) 3 j)) (fun j => nI ((be_up N 0 1 2) 4 j)) ((be_vs V 1 g) 5) ((be_vs V 1 g) 6) (fun j => nI ((be_up N 0 1 2) 7 j)) (fun j => nI ((be_up N 0 1 2) 8 j)) (fun j => nI ((be_up N 0 1 2) 9 j)) (fun j => nI ((be_up N 0 1 2) 10 j)) (fun j => nI ((be_up N 0 1 2) 11 j)) (fun j => nI ((be_up N 0 1 2) 12 j)) (fun j => nI ((be_up N 0 1 2) 13 j)) (fun j => be_fr ((be_up N 0 1 2) 14 j)) (fun j => nI ((be_up N 0 1 2) 15 j)) (fun j => nI ((be_up N 0 1 2) 16 j)) (fun j => nI ((be_up N 0 1 2) 17 j)) ((be_vs V 1 g) 18) (fun j => nI ((be_up N 0 1 2) 19 j)) (fun j => nI ((be_up N 0 1 2) 20 j)) (fun j => nI ((be_up N 0 1 2) 21 j)) (fun j => nI ((be_up N 0 1 2) 22 j)) ((be_vs V 1 g) 23) (fun j => nI ((be_up N 0 1 2) 24 j)) ((be_vs V 1 g) 25) (fun j => nI ((be_up N 0 1 2) 26 j)) fu (be_lr am nd (s0 c0) (s0 c1) 0).1 (be_lr am nd (s0 c0) (s0 c1) 0).2 (nI (be_nf (N 16) 0)) (nI 0) := by
    refine pk_loop (σ := Unit) (fun n i _ => wL_lawOf_499 post mc ms (nI c0) (nI c1) l0 am nd (nI cnt) (nI (be_nf (N 16) cnt)) kc ks (nI ((be_up N 0 1 2) 0 0)) (nI ((be_up N 0 1 2) 0 1)) (nI ((be_up N 0 1 2) 0 2)) (nI ((be_up N 0 1 2) 0 3)) (nI ((be_up N 0 1 2) 0 4)) ((be_vs V 1 g) 0 5) (nI ((be_up N 0 1 2) 0 6)) (nI ((be_up N 0 1 2) 0 7)) ((be_vs V 1 g) 1) (fun j => nI ((be_up N 0 1 2) 2 j)) (fun j => nI ((be_up N 0 1 2) 3 j)) (fun j => nI ((be_up N 0 1 2) 4 j)) ((be_vs V 1 g) 5) ((be_vs V 1 g) 6) (fun j => nI ((be_up N 0 1 2) 7 j)) (fun j => nI ((be_up N 0 1 2) 8 j)) (fun j => nI ((be_up N 0 1 2) 9 j)) (fun j => nI ((be_up N 0 1 2) 10 j)) (fun j => nI ((be_up N 0 1 2) 11 j)) (fun j => nI ((be_up N 0 1 2) 12 j)) (fun j => nI ((be_up N 0 1 2) 13 j)) (fun j => be_fr ((be_up N 0 1 2) 14 j)) (fun j => nI ((be_up N 0 1 2) 15 j)) (fun j => nI ((be_up N 0 1 2) 16 j)) (fun j => nI ((be_up N 0 1 2) 17 j)) ((be_vs V 1 g) 18) (fun j => nI ((be_up N 0 1 2) 19 j)) (fun j => nI ((be_up N 0 1 2) 20 j)) (fun j => nI ((be_up N 0 1 2) 21 j)) (fun j => nI ((be_up N 0 1 2) 22 j)) ((be_vs V 1 g) 23) (fun j => nI ((be_up N 0 1 2) 24 j)) ((be_vs V 1 g) 25) (fun j => nI ((be_up N 0 1 2) 26 j)) n (be_lr am nd (s0 c0) (s0 c1) i).1 (be_lr am nd (s0 c0) (s0 c1) i).2 (nI (be_nf (N 16) i)) (nI i)) (fun _ _ => True) cnt 0 () (by omega) trivial ?_ ?_
    · intro n _ _
      have v := be_vals i1 hF cnt (Nat.le_refl _)
      have g0 : g c0 = (be_lr am nd (s0 c0) (s0 c1) cnt).1 := (hg c0 hcc0).trans v.1
      have g1 : g c1 = (be_lr am nd (s0 c0) (s0 c1) cnt).2 := (hg c1 hcc1).trans v.2
      have gz : ∀ j, j < 16 → j ≠ c0 → j ≠ c1 → g j = 0 := by
        intro j q q0 q1
        rw [hg j q, be_val0 i1 q0 q1]
        exact hsz j q0 q1
      have hsum := be_lr_sum am nd (s0 c0) (s0 c1) cnt
      rw [hs0, hs1] at hsum
      refine pk_le cnt cnt (fun _ => br_t rfl ?_) (fun z => absurd z (by omega))
      refine be_cell (N := be_up N 0 1 2) (V := be_vs V 1 g) hcc0 (br_t g0 (be_cell (N := be_up N 0 1 2) (V := be_vs V 1 g) hcc1 (br_t g1 (br_t (by rw [hs0, hs1]; exact hsum) (be_digest (N := be_up N 0 1 2) (V := be_vs V 1 g) (br_t ?_ (be_faults2 (N := N) (V := V) (g := g) hCc i1 hF (br_t rfl ?_))))))))
      · show be_dg g 16 = _
        rw [be_dg_eq hcne gz 16 (Nat.le_refl _), if_pos hcc0, if_pos hcc1, g0, g1]
      · unfold wpX_transactions
        exact br_t (show nI (N 0 0) = nI cnt by rw [e0]) Hp
    · intro n t _ ht _ hk
      have hk' := hk () trivial
      have hv := be_val1 i1 hF ht (be_vals i1 hF t (by omega)).1 (be_vals i1 hF t (by omega)).2
      have ht0 : t < be_up N 0 1 2 0 0 := by
        show t < N 0 0
        omega
      have hc0' : be_up N 0 1 2 0 0 ≤ 8 := by
        show N 0 0 ≤ 8
        omega
      obtain ⟨L, hL⟩ : ∃ L, (be_lr am nd (s0 c0) (s0 c1) t).1 = L := ⟨_, rfl⟩
      obtain ⟨R, hRR⟩ : ∃ R, (be_lr am nd (s0 c0) (s0 c1) t).2 = R := ⟨_, rfl⟩
      rw [hL, hRR] at hv
      show wL_lawOf_499 post mc ms (nI c0) (nI c1) l0 am nd (nI cnt) (nI (be_nf (N 16) cnt)) kc ks (nI ((be_up N 0 1 2) 0 0)) (nI ((be_up N 0 1 2) 0 1)) (nI ((be_up N 0 1 2) 0 2)) (nI ((be_up N 0 1 2) 0 3)) (nI ((be_up N 0 1 2) 0 4)) ((be_vs V 1 g) 0 5) (nI ((be_up N 0 1 2) 0 6)) (nI ((be_up N 0 1 2) 0 7)) ((be_vs V 1 g) 1) (fun j => nI ((be_up N 0 1 2) 2 j)) (fun j => nI ((be_up N 0 1 2) 3 j)) (fun j => nI ((be_up N 0 1 2) 4 j)) ((be_vs V 1 g) 5) ((be_vs V 1 g) 6) (fun j => nI ((be_up N 0 1 2) 7 j)) (fun j => nI ((be_up N 0 1 2) 8 j)) (fun j => nI ((be_up N 0 1 2) 9 j)) (fun j => nI ((be_up N 0 1 2) 10 j)) (fun j => nI ((be_up N 0 1 2) 11 j)) (fun j => nI ((be_up N 0 1 2) 12 j)) (fun j => nI ((be_up N 0 1 2) 13 j)) (fun j => be_fr ((be_up N 0 1 2) 14 j)) (fun j => nI ((be_up N 0 1 2) 15 j)) (fun j => nI ((be_up N 0 1 2) 16 j)) (fun j => nI ((be_up N 0 1 2) 17 j)) ((be_vs V 1 g) 18) (fun j => nI ((be_up N 0 1 2) 19 j)) (fun j => nI ((be_up N 0 1 2) 20 j)) (fun j => nI ((be_up N 0 1 2) 21 j)) (fun j => nI ((be_up N 0 1 2) 22 j)) ((be_vs V 1 g) 23) (fun j => nI ((be_up N 0 1 2) 24 j)) ((be_vs V 1 g) 25) (fun j => nI ((be_up N 0 1 2) 26 j)) (n + 1) (be_lr am nd (s0 c0) (s0 c1) t).1 (be_lr am nd (s0 c0) (s0 c1) t).2 (nI (be_nf (N 16) t)) (nI t)
      rw [hL, hRR]
      have em1 : nI cnt - 1 = nI (cnt - 1) := pk_sub (b := 1) hc1
      rcases hv with ⟨q1, q2, q3⟩ | ⟨q1, q2, q3, q4, q5, q6, q7, q8, q9⟩
      · have elr : be_lr am nd (s0 c0) (s0 c1) (t + 1) = be_lr am nd (s0 c0) (s0 c1) t := if_pos (by rw [hL]; exact q1)
        have enf : be_nf (N 16) (t + 1) = be_nf (N 16) t := by
          show be_nf (N 16) t + (if N 16 t = 0 then 1 else 0) = be_nf (N 16) t
          rw [if_neg (by omega)]
          rfl
        rw [elr, enf, hL, hRR] at hk'
        have rest : ∀ x19 : Int32, wL_lawOf_534 post mc ms (wL_lawOf_499 post mc ms (nI c0) (nI c1) l0 am nd (nI cnt) (nI (be_nf (N 16) cnt)) kc ks (nI ((be_up N 0 1 2) 0 0)) (nI ((be_up N 0 1 2) 0 1)) (nI ((be_up N 0 1 2) 0 2)) (nI ((be_up N 0 1 2) 0 3)) (nI ((be_up N 0 1 2) 0 4)) ((be_vs V 1 g) 0 5) (nI ((be_up N 0 1 2) 0 6)) (nI ((be_up N 0 1 2) 0 7)) ((be_vs V 1 g) 1) (fun j => nI ((be_up N 0 1 2) 2 j)) (fun j => nI ((be_up N 0 1 2) 3 j)) (fun j => nI ((be_up N 0 1 2) 4 j)) ((be_vs V 1 g) 5) ((be_vs V 1 g) 6) (fun j => nI ((be_up N 0 1 2) 7 j)) (fun j => nI ((be_up N 0 1 2) 8 j)) (fun j => nI ((be_up N 0 1 2) 9 j)) (fun j => nI ((be_up N 0 1 2) 10 j)) (fun j => nI ((be_up N 0 1 2) 11 j)) (fun j => nI ((be_up N 0 1 2) 12 j)) (fun j => nI ((be_up N 0 1 2) 13 j)) (fun j => be_fr ((be_up N 0 1 2) 14 j)) (fun j => nI ((be_up N 0 1 2) 15 j)) (fun j => nI ((be_up N 0 1 2) 16 j)) (fun j => nI ((be_up N 0 1 2) 17 j)) ((be_vs V 1 g) 18) (fun j => nI ((be_up N 0 1 2) 19 j)) (fun j => nI ((be_up N 0 1 2) 20 j)) (fun j => nI ((be_up N 0 1 2) 21 j)) (fun j => nI ((be_up N 0 1 2) 22 j)) ((be_vs V 1 g) 23) (fun j => nI ((be_up N 0 1 2) 24 j)) ((be_vs V 1 g) 25) (fun j => nI ((be_up N 0 1 2) 26 j)) n) (nI c0) (nI c1) l0 am nd (nI cnt) L R (nI (be_nf (N 16) t)) (nI (be_nf (N 16) cnt)) (nI t) 1 x19 kc ks (nI ((be_up N 0 1 2) 0 0)) (nI ((be_up N 0 1 2) 0 1)) (nI ((be_up N 0 1 2) 0 2)) (nI ((be_up N 0 1 2) 0 3)) (nI ((be_up N 0 1 2) 0 4)) ((be_vs V 1 g) 0 5) (nI ((be_up N 0 1 2) 0 6)) (nI ((be_up N 0 1 2) 0 7)) ((be_vs V 1 g) 1) (fun j => nI ((be_up N 0 1 2) 2 j)) (fun j => nI ((be_up N 0 1 2) 3 j)) (fun j => nI ((be_up N 0 1 2) 4 j)) ((be_vs V 1 g) 5) ((be_vs V 1 g) 6) (fun j => nI ((be_up N 0 1 2) 7 j)) (fun j => nI ((be_up N 0 1 2) 8 j)) (fun j => nI ((be_up N 0 1 2) 9 j)) (fun j => nI ((be_up N 0 1 2) 10 j)) (fun j => nI ((be_up N 0 1 2) 11 j)) (fun j => nI ((be_up N 0 1 2) 12 j)) (fun j => nI ((be_up N 0 1 2) 13 j)) (fun j => be_fr ((be_up N 0 1 2) 14 j)) (fun j => nI ((be_up N 0 1 2) 15 j)) (fun j => nI ((be_up N 0 1 2) 16 j)) (fun j => nI ((be_up N 0 1 2) 17 j)) ((be_vs V 1 g) 18) (fun j => nI ((be_up N 0 1 2) 19 j)) (fun j => nI ((be_up N 0 1 2) 20 j)) (fun j => nI ((be_up N 0 1 2) 21 j)) (fun j => nI ((be_up N 0 1 2) 22 j)) ((be_vs V 1 g) 23) (fun j => nI ((be_up N 0 1 2) 24 j)) ((be_vs V 1 g) 25) (fun j => nI ((be_up N 0 1 2) 26 j)) := by
          intro x19
          refine br_f (by decide) (br_f (by decide) (br_f (by decide) ?_))
          unfold wL_lawOf_584
          refine be_result (N := be_up N 0 1 2) (V := be_vs V 1 g) hB2 ht0 hc0' rfl (fun z => absurd z (show ¬ N 16 t = 0 by omega)) (fun _ => br_f (by decide) (br_t rfl ?_))
          refine be_outs (N := be_up N 0 1 2) (V := be_vs V 1 g) hB2 ht0 hc0' rfl (fun z => absurd z (show ¬ N 16 t = 0 by omega)) (fun _ => br_f (by decide) (br_t rfl ?_))
          refine be_out (k := 0) (N := be_up N 0 1 2) (V := be_vs V 1 g) hB2 ht0 hc0' rfl (by omega) (fun z => absurd z (show ¬ N 16 t = 0 by omega)) (fun _ => br_f (by decide) (br_t rfl ?_))
          refine be_out (k := 1) (N := be_up N 0 1 2) (V := be_vs V 1 g) hB2 ht0 hc0' rfl (by omega) (fun z => absurd z (show ¬ N 16 t = 0 by omega)) (fun _ => br_f (by decide) (br_t rfl ?_))
          refine be_out (k := 2) (N := be_up N 0 1 2) (V := be_vs V 1 g) hB2 ht0 hc0' rfl (by omega) (fun z => absurd z (show ¬ N 16 t = 0 by omega)) (fun _ => br_f (by decide) ?_)
          unfold wL_lawOf_690
          refine br_t rfl (be_stored (N := be_up N 0 1 2) (V := be_vs V 1 g) ht0 hc0' rfl (br_f (by decide) (br_t (show nI (N 8 t) = 0 by rw [q3]; rfl) (nm_r (nI_1 t) hk'))))
        refine pk_le cnt t (fun z => absurd z (by omega)) (fun _ => br_f (fun z => absurd q1 (Int32.not_lt.mpr z)) ?_)
        exact br_c (fun _ => rest 3) (fun _ => rest 2)
      · have elr : be_lr am nd (s0 c0) (s0 c1) (t + 1) = ((be_lr am nd (s0 c0) (s0 c1) t).1 - am, (be_lr am nd (s0 c0) (s0 c1) t).2 + am) := if_neg (by rw [hL]; exact q1)
        have enf : be_nf (N 16) (t + 1) = be_nf (N 16) t + 1 := by
          show be_nf (N 16) t + (if N 16 t = 0 then 1 else 0) = be_nf (N 16) t + 1
          rw [if_pos q2]
        rw [elr, enf, hL, hRR] at hk'
        have rest : ∀ l : Nat, ((t + 1 = cnt ∧ l = 3) ∨ (t + 1 ≠ cnt ∧ l = 2)) → wL_lawOf_534 post mc ms (wL_lawOf_499 post mc ms (nI c0) (nI c1) l0 am nd (nI cnt) (nI (be_nf (N 16) cnt)) kc ks (nI ((be_up N 0 1 2) 0 0)) (nI ((be_up N 0 1 2) 0 1)) (nI ((be_up N 0 1 2) 0 2)) (nI ((be_up N 0 1 2) 0 3)) (nI ((be_up N 0 1 2) 0 4)) ((be_vs V 1 g) 0 5) (nI ((be_up N 0 1 2) 0 6)) (nI ((be_up N 0 1 2) 0 7)) ((be_vs V 1 g) 1) (fun j => nI ((be_up N 0 1 2) 2 j)) (fun j => nI ((be_up N 0 1 2) 3 j)) (fun j => nI ((be_up N 0 1 2) 4 j)) ((be_vs V 1 g) 5) ((be_vs V 1 g) 6) (fun j => nI ((be_up N 0 1 2) 7 j)) (fun j => nI ((be_up N 0 1 2) 8 j)) (fun j => nI ((be_up N 0 1 2) 9 j)) (fun j => nI ((be_up N 0 1 2) 10 j)) (fun j => nI ((be_up N 0 1 2) 11 j)) (fun j => nI ((be_up N 0 1 2) 12 j)) (fun j => nI ((be_up N 0 1 2) 13 j)) (fun j => be_fr ((be_up N 0 1 2) 14 j)) (fun j => nI ((be_up N 0 1 2) 15 j)) (fun j => nI ((be_up N 0 1 2) 16 j)) (fun j => nI ((be_up N 0 1 2) 17 j)) ((be_vs V 1 g) 18) (fun j => nI ((be_up N 0 1 2) 19 j)) (fun j => nI ((be_up N 0 1 2) 20 j)) (fun j => nI ((be_up N 0 1 2) 21 j)) (fun j => nI ((be_up N 0 1 2) 22 j)) ((be_vs V 1 g) 23) (fun j => nI ((be_up N 0 1 2) 24 j)) ((be_vs V 1 g) 25) (fun j => nI ((be_up N 0 1 2) 26 j)) n) (nI c0) (nI c1) l0 am nd (nI cnt) L R (nI (be_nf (N 16) t)) (nI (be_nf (N 16) cnt)) (nI t) 0 (nI l) kc ks (nI ((be_up N 0 1 2) 0 0)) (nI ((be_up N 0 1 2) 0 1)) (nI ((be_up N 0 1 2) 0 2)) (nI ((be_up N 0 1 2) 0 3)) (nI ((be_up N 0 1 2) 0 4)) ((be_vs V 1 g) 0 5) (nI ((be_up N 0 1 2) 0 6)) (nI ((be_up N 0 1 2) 0 7)) ((be_vs V 1 g) 1) (fun j => nI ((be_up N 0 1 2) 2 j)) (fun j => nI ((be_up N 0 1 2) 3 j)) (fun j => nI ((be_up N 0 1 2) 4 j)) ((be_vs V 1 g) 5) ((be_vs V 1 g) 6) (fun j => nI ((be_up N 0 1 2) 7 j)) (fun j => nI ((be_up N 0 1 2) 8 j)) (fun j => nI ((be_up N 0 1 2) 9 j)) (fun j => nI ((be_up N 0 1 2) 10 j)) (fun j => nI ((be_up N 0 1 2) 11 j)) (fun j => nI ((be_up N 0 1 2) 12 j)) (fun j => nI ((be_up N 0 1 2) 13 j)) (fun j => be_fr ((be_up N 0 1 2) 14 j)) (fun j => nI ((be_up N 0 1 2) 15 j)) (fun j => nI ((be_up N 0 1 2) 16 j)) (fun j => nI ((be_up N 0 1 2) 17 j)) ((be_vs V 1 g) 18) (fun j => nI ((be_up N 0 1 2) 19 j)) (fun j => nI ((be_up N 0 1 2) 20 j)) (fun j => nI ((be_up N 0 1 2) 21 j)) (fun j => nI ((be_up N 0 1 2) 22 j)) ((be_vs V 1 g) 23) (fun j => nI ((be_up N 0 1 2) 24 j)) ((be_vs V 1 g) 25) (fun j => nI ((be_up N 0 1 2) 26 j)) := by
          intro l hl
          have e17 : N 17 t = l := by
            rw [q6]
            rcases hl with z | z
            · rw [if_pos z.1]; omega
            · rw [if_neg z.1]; omega
          have l23 : l = 2 ∨ l = 3 := by omega
          refine br_t rfl (br_t rfl (br_t rfl ?_))
          unfold wL_lawOf_584
          refine be_result (N := be_up N 0 1 2) (V := be_vs V 1 g) hB2 ht0 hc0' rfl (fun _ => br_t rfl (br_t rfl ?_)) (fun z => absurd q2 z)
          refine be_outs (N := be_up N 0 1 2) (V := be_vs V 1 g) hB2 ht0 hc0' rfl (fun _ => br_t rfl (br_t (show nI (N 17 t) = nI l by rw [e17]) ?_)) (fun z => absurd q2 z)
          refine be_out (k := 0) (N := be_up N 0 1 2) (V := be_vs V 1 g) hB2 ht0 hc0' rfl (by omega) (fun _ _ => br_t rfl (br_t q7 ?_)) (fun z => absurd ⟨q2, show 0 < N 17 t by omega⟩ z)
          refine be_out (k := 1) (N := be_up N 0 1 2) (V := be_vs V 1 g) hB2 ht0 hc0' rfl (by omega) (fun _ _ => br_t rfl (br_t q8 ?_)) (fun z => absurd ⟨q2, show 1 < N 17 t by omega⟩ z)
          have fin : wL_lawOf_699 post mc ms (wL_lawOf_499 post mc ms (nI c0) (nI c1) l0 am nd (nI cnt) (nI (be_nf (N 16) cnt)) kc ks (nI ((be_up N 0 1 2) 0 0)) (nI ((be_up N 0 1 2) 0 1)) (nI ((be_up N 0 1 2) 0 2)) (nI ((be_up N 0 1 2) 0 3)) (nI ((be_up N 0 1 2) 0 4)) ((be_vs V 1 g) 0 5) (nI ((be_up N 0 1 2) 0 6)) (nI ((be_up N 0 1 2) 0 7)) ((be_vs V 1 g) 1) (fun j => nI ((be_up N 0 1 2) 2 j)) (fun j => nI ((be_up N 0 1 2) 3 j)) (fun j => nI ((be_up N 0 1 2) 4 j)) ((be_vs V 1 g) 5) ((be_vs V 1 g) 6) (fun j => nI ((be_up N 0 1 2) 7 j)) (fun j => nI ((be_up N 0 1 2) 8 j)) (fun j => nI ((be_up N 0 1 2) 9 j)) (fun j => nI ((be_up N 0 1 2) 10 j)) (fun j => nI ((be_up N 0 1 2) 11 j)) (fun j => nI ((be_up N 0 1 2) 12 j)) (fun j => nI ((be_up N 0 1 2) 13 j)) (fun j => be_fr ((be_up N 0 1 2) 14 j)) (fun j => nI ((be_up N 0 1 2) 15 j)) (fun j => nI ((be_up N 0 1 2) 16 j)) (fun j => nI ((be_up N 0 1 2) 17 j)) ((be_vs V 1 g) 18) (fun j => nI ((be_up N 0 1 2) 19 j)) (fun j => nI ((be_up N 0 1 2) 20 j)) (fun j => nI ((be_up N 0 1 2) 21 j)) (fun j => nI ((be_up N 0 1 2) 22 j)) ((be_vs V 1 g) 23) (fun j => nI ((be_up N 0 1 2) 24 j)) ((be_vs V 1 g) 25) (fun j => nI ((be_up N 0 1 2) 26 j)) n) (nI c0) (nI c1) l0 am nd (nI cnt) (L - am) (R + am) (nI (be_nf (N 16) t) + 1) (nI (be_nf (N 16) cnt)) (nI t) 0 0 0 kc ks (nI ((be_up N 0 1 2) 0 0)) (nI ((be_up N 0 1 2) 0 1)) (nI ((be_up N 0 1 2) 0 2)) (nI ((be_up N 0 1 2) 0 3)) (nI ((be_up N 0 1 2) 0 4)) ((be_vs V 1 g) 0 5) (nI ((be_up N 0 1 2) 0 6)) (nI ((be_up N 0 1 2) 0 7)) ((be_vs V 1 g) 1) (fun j => nI ((be_up N 0 1 2) 2 j)) (fun j => nI ((be_up N 0 1 2) 3 j)) (fun j => nI ((be_up N 0 1 2) 4 j)) ((be_vs V 1 g) 5) ((be_vs V 1 g) 6) (fun j => nI ((be_up N 0 1 2) 7 j)) (fun j => nI ((be_up N 0 1 2) 8 j)) (fun j => nI ((be_up N 0 1 2) 9 j)) (fun j => nI ((be_up N 0 1 2) 10 j)) (fun j => nI ((be_up N 0 1 2) 11 j)) (fun j => nI ((be_up N 0 1 2) 12 j)) (fun j => nI ((be_up N 0 1 2) 13 j)) (fun j => be_fr ((be_up N 0 1 2) 14 j)) (fun j => nI ((be_up N 0 1 2) 15 j)) (fun j => nI ((be_up N 0 1 2) 16 j)) (fun j => nI ((be_up N 0 1 2) 17 j)) ((be_vs V 1 g) 18) (fun j => nI ((be_up N 0 1 2) 19 j)) (fun j => nI ((be_up N 0 1 2) 20 j)) (fun j => nI ((be_up N 0 1 2) 21 j)) (fun j => nI ((be_up N 0 1 2) 22 j)) ((be_vs V 1 g) 23) (fun j => nI ((be_up N 0 1 2) 24 j)) ((be_vs V 1 g) 25) (fun j => nI ((be_up N 0 1 2) 26 j)) ∧ wL_lawOf_699 post mc ms (wL_lawOf_499 post mc ms (nI c0) (nI c1) l0 am nd (nI cnt) (nI (be_nf (N 16) cnt)) kc ks (nI ((be_up N 0 1 2) 0 0)) (nI ((be_up N 0 1 2) 0 1)) (nI ((be_up N 0 1 2) 0 2)) (nI ((be_up N 0 1 2) 0 3)) (nI ((be_up N 0 1 2) 0 4)) ((be_vs V 1 g) 0 5) (nI ((be_up N 0 1 2) 0 6)) (nI ((be_up N 0 1 2) 0 7)) ((be_vs V 1 g) 1) (fun j => nI ((be_up N 0 1 2) 2 j)) (fun j => nI ((be_up N 0 1 2) 3 j)) (fun j => nI ((be_up N 0 1 2) 4 j)) ((be_vs V 1 g) 5) ((be_vs V 1 g) 6) (fun j => nI ((be_up N 0 1 2) 7 j)) (fun j => nI ((be_up N 0 1 2) 8 j)) (fun j => nI ((be_up N 0 1 2) 9 j)) (fun j => nI ((be_up N 0 1 2) 10 j)) (fun j => nI ((be_up N 0 1 2) 11 j)) (fun j => nI ((be_up N 0 1 2) 12 j)) (fun j => nI ((be_up N 0 1 2) 13 j)) (fun j => be_fr ((be_up N 0 1 2) 14 j)) (fun j => nI ((be_up N 0 1 2) 15 j)) (fun j => nI ((be_up N 0 1 2) 16 j)) (fun j => nI ((be_up N 0 1 2) 17 j)) ((be_vs V 1 g) 18) (fun j => nI ((be_up N 0 1 2) 19 j)) (fun j => nI ((be_up N 0 1 2) 20 j)) (fun j => nI ((be_up N 0 1 2) 21 j)) (fun j => nI ((be_up N 0 1 2) 22 j)) ((be_vs V 1 g) 23) (fun j => nI ((be_up N 0 1 2) 24 j)) ((be_vs V 1 g) 25) (fun j => nI ((be_up N 0 1 2) 26 j)) n) (nI c0) (nI c1) l0 am nd (nI cnt) (L - am) (R + am) (nI (be_nf (N 16) t) + 1) (nI (be_nf (N 16) cnt)) (nI t) 0 (am * (R + am)) (am * (R + am)) kc ks (nI ((be_up N 0 1 2) 0 0)) (nI ((be_up N 0 1 2) 0 1)) (nI ((be_up N 0 1 2) 0 2)) (nI ((be_up N 0 1 2) 0 3)) (nI ((be_up N 0 1 2) 0 4)) ((be_vs V 1 g) 0 5) (nI ((be_up N 0 1 2) 0 6)) (nI ((be_up N 0 1 2) 0 7)) ((be_vs V 1 g) 1) (fun j => nI ((be_up N 0 1 2) 2 j)) (fun j => nI ((be_up N 0 1 2) 3 j)) (fun j => nI ((be_up N 0 1 2) 4 j)) ((be_vs V 1 g) 5) ((be_vs V 1 g) 6) (fun j => nI ((be_up N 0 1 2) 7 j)) (fun j => nI ((be_up N 0 1 2) 8 j)) (fun j => nI ((be_up N 0 1 2) 9 j)) (fun j => nI ((be_up N 0 1 2) 10 j)) (fun j => nI ((be_up N 0 1 2) 11 j)) (fun j => nI ((be_up N 0 1 2) 12 j)) (fun j => nI ((be_up N 0 1 2) 13 j)) (fun j => be_fr ((be_up N 0 1 2) 14 j)) (fun j => nI ((be_up N 0 1 2) 15 j)) (fun j => nI ((be_up N 0 1 2) 16 j)) (fun j => nI ((be_up N 0 1 2) 17 j)) ((be_vs V 1 g) 18) (fun j => nI ((be_up N 0 1 2) 19 j)) (fun j => nI ((be_up N 0 1 2) 20 j)) (fun j => nI ((be_up N 0 1 2) 21 j)) (fun j => nI ((be_up N 0 1 2) 22 j)) ((be_vs V 1 g) 23) (fun j => nI ((be_up N 0 1 2) 24 j)) ((be_vs V 1 g) 25) (fun j => nI ((be_up N 0 1 2) 26 j)) := by
            have st : wpX_stored (fun r_754 => (((0 : Int32) = 0 → (wL_lawOf_727 post mc ms (wL_lawOf_499 post mc ms (nI c0) (nI c1) l0 am nd (nI cnt) (nI (be_nf (N 16) cnt)) kc ks (nI ((be_up N 0 1 2) 0 0)) (nI ((be_up N 0 1 2) 0 1)) (nI ((be_up N 0 1 2) 0 2)) (nI ((be_up N 0 1 2) 0 3)) (nI ((be_up N 0 1 2) 0 4)) ((be_vs V 1 g) 0 5) (nI ((be_up N 0 1 2) 0 6)) (nI ((be_up N 0 1 2) 0 7)) ((be_vs V 1 g) 1) (fun j => nI ((be_up N 0 1 2) 2 j)) (fun j => nI ((be_up N 0 1 2) 3 j)) (fun j => nI ((be_up N 0 1 2) 4 j)) ((be_vs V 1 g) 5) ((be_vs V 1 g) 6) (fun j => nI ((be_up N 0 1 2) 7 j)) (fun j => nI ((be_up N 0 1 2) 8 j)) (fun j => nI ((be_up N 0 1 2) 9 j)) (fun j => nI ((be_up N 0 1 2) 10 j)) (fun j => nI ((be_up N 0 1 2) 11 j)) (fun j => nI ((be_up N 0 1 2) 12 j)) (fun j => nI ((be_up N 0 1 2) 13 j)) (fun j => be_fr ((be_up N 0 1 2) 14 j)) (fun j => nI ((be_up N 0 1 2) 15 j)) (fun j => nI ((be_up N 0 1 2) 16 j)) (fun j => nI ((be_up N 0 1 2) 17 j)) ((be_vs V 1 g) 18) (fun j => nI ((be_up N 0 1 2) 19 j)) (fun j => nI ((be_up N 0 1 2) 20 j)) (fun j => nI ((be_up N 0 1 2) 21 j)) (fun j => nI ((be_up N 0 1 2) 22 j)) ((be_vs V 1 g) 23) (fun j => nI ((be_up N 0 1 2) 24 j)) ((be_vs V 1 g) 25) (fun j => nI ((be_up N 0 1 2) 26 j)) n) (nI c0) (nI c1) l0 am nd (nI cnt) (L - am) (R + am) (nI (be_nf (N 16) t) + 1) (nI (be_nf (N 16) cnt)) (nI t) (((1 : Int32) <<< (nI c0 &&& 31)) ||| ((1 : Int32) <<< (nI c1 &&& 31))) r_754 kc ks (nI ((be_up N 0 1 2) 0 0)) (nI ((be_up N 0 1 2) 0 1)) (nI ((be_up N 0 1 2) 0 2)) (nI ((be_up N 0 1 2) 0 3)) (nI ((be_up N 0 1 2) 0 4)) ((be_vs V 1 g) 0 5) (nI ((be_up N 0 1 2) 0 6)) (nI ((be_up N 0 1 2) 0 7)) ((be_vs V 1 g) 1) (fun j => nI ((be_up N 0 1 2) 2 j)) (fun j => nI ((be_up N 0 1 2) 3 j)) (fun j => nI ((be_up N 0 1 2) 4 j)) ((be_vs V 1 g) 5) ((be_vs V 1 g) 6) (fun j => nI ((be_up N 0 1 2) 7 j)) (fun j => nI ((be_up N 0 1 2) 8 j)) (fun j => nI ((be_up N 0 1 2) 9 j)) (fun j => nI ((be_up N 0 1 2) 10 j)) (fun j => nI ((be_up N 0 1 2) 11 j)) (fun j => nI ((be_up N 0 1 2) 12 j)) (fun j => nI ((be_up N 0 1 2) 13 j)) (fun j => be_fr ((be_up N 0 1 2) 14 j)) (fun j => nI ((be_up N 0 1 2) 15 j)) (fun j => nI ((be_up N 0 1 2) 16 j)) (fun j => nI ((be_up N 0 1 2) 17 j)) ((be_vs V 1 g) 18) (fun j => nI ((be_up N 0 1 2) 19 j)) (fun j => nI ((be_up N 0 1 2) 20 j)) (fun j => nI ((be_up N 0 1 2) 21 j)) (fun j => nI ((be_up N 0 1 2) 22 j)) ((be_vs V 1 g) 23) (fun j => nI ((be_up N 0 1 2) 24 j)) ((be_vs V 1 g) 25) (fun j => nI ((be_up N 0 1 2) 26 j)))) ∧ (¬ (0 : Int32) = 0 → (wL_lawOf_727 post mc ms (wL_lawOf_499 post mc ms (nI c0) (nI c1) l0 am nd (nI cnt) (nI (be_nf (N 16) cnt)) kc ks (nI ((be_up N 0 1 2) 0 0)) (nI ((be_up N 0 1 2) 0 1)) (nI ((be_up N 0 1 2) 0 2)) (nI ((be_up N 0 1 2) 0 3)) (nI ((be_up N 0 1 2) 0 4)) ((be_vs V 1 g) 0 5) (nI ((be_up N 0 1 2) 0 6)) (nI ((be_up N 0 1 2) 0 7)) ((be_vs V 1 g) 1) (fun j => nI ((be_up N 0 1 2) 2 j)) (fun j => nI ((be_up N 0 1 2) 3 j)) (fun j => nI ((be_up N 0 1 2) 4 j)) ((be_vs V 1 g) 5) ((be_vs V 1 g) 6) (fun j => nI ((be_up N 0 1 2) 7 j)) (fun j => nI ((be_up N 0 1 2) 8 j)) (fun j => nI ((be_up N 0 1 2) 9 j)) (fun j => nI ((be_up N 0 1 2) 10 j)) (fun j => nI ((be_up N 0 1 2) 11 j)) (fun j => nI ((be_up N 0 1 2) 12 j)) (fun j => nI ((be_up N 0 1 2) 13 j)) (fun j => be_fr ((be_up N 0 1 2) 14 j)) (fun j => nI ((be_up N 0 1 2) 15 j)) (fun j => nI ((be_up N 0 1 2) 16 j)) (fun j => nI ((be_up N 0 1 2) 17 j)) ((be_vs V 1 g) 18) (fun j => nI ((be_up N 0 1 2) 19 j)) (fun j => nI ((be_up N 0 1 2) 20 j)) (fun j => nI ((be_up N 0 1 2) 21 j)) (fun j => nI ((be_up N 0 1 2) 22 j)) ((be_vs V 1 g) 23) (fun j => nI ((be_up N 0 1 2) 24 j)) ((be_vs V 1 g) 25) (fun j => nI ((be_up N 0 1 2) 26 j)) n) (nI c0) (nI c1) l0 am nd (nI cnt) (L - am) (R + am) (nI (be_nf (N 16) t) + 1) (nI (be_nf (N 16) cnt)) (nI t) 0 r_754 kc ks (nI ((be_up N 0 1 2) 0 0)) (nI ((be_up N 0 1 2) 0 1)) (nI ((be_up N 0 1 2) 0 2)) (nI ((be_up N 0 1 2) 0 3)) (nI ((be_up N 0 1 2) 0 4)) ((be_vs V 1 g) 0 5) (nI ((be_up N 0 1 2) 0 6)) (nI ((be_up N 0 1 2) 0 7)) ((be_vs V 1 g) 1) (fun j => nI ((be_up N 0 1 2) 2 j)) (fun j => nI ((be_up N 0 1 2) 3 j)) (fun j => nI ((be_up N 0 1 2) 4 j)) ((be_vs V 1 g) 5) ((be_vs V 1 g) 6) (fun j => nI ((be_up N 0 1 2) 7 j)) (fun j => nI ((be_up N 0 1 2) 8 j)) (fun j => nI ((be_up N 0 1 2) 9 j)) (fun j => nI ((be_up N 0 1 2) 10 j)) (fun j => nI ((be_up N 0 1 2) 11 j)) (fun j => nI ((be_up N 0 1 2) 12 j)) (fun j => nI ((be_up N 0 1 2) 13 j)) (fun j => be_fr ((be_up N 0 1 2) 14 j)) (fun j => nI ((be_up N 0 1 2) 15 j)) (fun j => nI ((be_up N 0 1 2) 16 j)) (fun j => nI ((be_up N 0 1 2) 17 j)) ((be_vs V 1 g) 18) (fun j => nI ((be_up N 0 1 2) 19 j)) (fun j => nI ((be_up N 0 1 2) 20 j)) (fun j => nI ((be_up N 0 1 2) 21 j)) (fun j => nI ((be_up N 0 1 2) 22 j)) ((be_vs V 1 g) 23) (fun j => nI ((be_up N 0 1 2) 24 j)) ((be_vs V 1 g) 25) (fun j => nI ((be_up N 0 1 2) 26 j)))))) (be_cn (be_up N 0 1 2) (be_vs V 1 g)) (nI t) := by
              refine be_stored (N := be_up N 0 1 2) (V := be_vs V 1 g) ht0 hc0' rfl (br_t rfl ?_)
              rw [be_shl1 (show c0 < 31 by omega), be_shl1 (show c1 < 31 by omega), be_or]
              refine br_t (show nI (N 8 t) = nI (2 ^ c0 ||| 2 ^ c1) by rw [q3]) (nm_r (nI_1 t) ?_)
              rw [nI_1]
              exact hk'
            exact ⟨br_t rfl st, br_t rfl st⟩
          rcases hl with ⟨z1, z2⟩ | ⟨z1, z2⟩
          · subst z2
            refine be_out (k := 2) (N := be_up N 0 1 2) (V := be_vs V 1 g) hB2 ht0 hc0' rfl (by omega) (fun _ _ => br_t rfl (br_f (by decide) ?_)) (fun z => absurd ⟨q2, show 2 < N 17 t by omega⟩ z)
            have e18 : be_vs V 1 g 18 (12 * t + 2) = am * (R + am) := q9 z1
            rw [e18]
            exact fin.2
          · subst z2
            refine be_out (k := 2) (N := be_up N 0 1 2) (V := be_vs V 1 g) hB2 ht0 hc0' rfl (by omega) (fun _ y => absurd y (show ¬ 2 < N 17 t by omega)) (fun z => br_t rfl (br_t rfl ?_))
            unfold wL_lawOf_690
            exact fin.1
        refine pk_le cnt t (fun z => absurd z (by omega)) (fun _ => br_t (Int32.not_lt.mp q1) ?_)
        unfold wL_lawOf_518
        rw [em1]
        exact pk_eq t (cnt - 1) (fun z => rest 3 (Or.inl ⟨by omega, rfl⟩)) (fun z => rest 2 (Or.inr ⟨by omega, rfl⟩))
  obtain ⟨n, hn⟩ := main
  exact ⟨n, start n hn⟩
end
section
theorem be_workX {cnt W c0 c1 a b s i t0 : Nat} {am nd x1 : Int32} {s0 : Nat → Int32} {post : Int32 → St2 → Prop} {N : Nat → Nat → Nat} {V : Nat → Nat → Int32} (hC : be_Cs cnt W c0 c1 a b) (hs : s ≤ 7) (hi15 : i ≤ 15) (ec : cnt = t0 + 1) (hI : (i = 0 ∧ be_bs W c0 c1 a b am nd s0 t0 12 N V) ∨ (be_Inv cnt W c0 c1 a b am nd s0 N V ∧ N 0 6 ≤ 7 * i))
    (H : ∀ N' V', be_Inv cnt W c0 c1 a b am nd s0 N' V' → N' 0 6 ≤ 7 * (i + 1) → post 0 (be_cn N' V')) : wpX_work post (be_cn N V) x1 (nI s) := by
  have hCc := hC
  obtain ⟨hc1, hc8, hW1, hW6, hcc0, hcc1, hcne, ha, hbb, hab⟩ := hC
  rcases hI with ⟨i0, hb⟩ | ⟨hb, hck⟩
  · have hPT := be_PT_of (by omega) hcc0 hcc1 hb
    rw [← ec] at hPT
    obtain ⟨hB, hz, e0, e1, e2, es, hP, hlen, hIn⟩ := hb
    exact be_work0 (N := N) (V := V) hCc hs hB hz (by rw [e0, ec]) e1 e2 es hPT (fun N' V' g1 g2 => H N' V' g1 (by omega))
  · exact be_work1 (N := N) (V := V) (M := 7 * i) hCc hs (by omega) hb hck (fun N' V' g1 g2 => H N' V' g1 (by omega))
theorem be_law398 {cnt W c0 c1 a b mc ms kc ks t0 : Nat} {am nd l0 x2 x3 : Int32} {s0 : Nat → Int32} {post : Int32 → St0 → Prop} {N : Nat → Nat → Nat} {V : Nat → Nat → Int32} (hC : be_Cs cnt W c0 c1 a b) (ec : cnt = t0 + 1) (h : be_bs W c0 c1 a b am nd s0 t0 12 N V)
    (hs0 : s0 c0 = l0) (hs1 : s0 c1 = 5) (hsz : ∀ j, j ≠ c0 → j ≠ c1 → s0 j = 0) (Hp : post 1 ()) :
    ∃ fu, wL_lawOf_398 post mc ms x2 x3 (nI c0) (nI c1) l0 am nd (nI cnt) kc ks fu 0 (nI (N 0 0)) (nI (N 0 1)) (nI (N 0 2)) (nI (N 0 3)) (nI (N 0 4)) (V 0 5) (nI (N 0 6)) (nI (N 0 7)) (V 1) (fun j => nI (N 2 j)) (fun j => nI (N 3 j)) (fun j => nI (N 4 j)) (V 5) (V 6) (fun j => nI (N 7 j)) (fun j => nI (N 8 j)) (fun j => nI (N 9 j)) (fun j => nI (N 10 j)) (fun j => nI (N 11 j)) (fun j => nI (N 12 j)) (fun j => nI (N 13 j)) (fun j => be_fr (N 14 j)) (fun j => nI (N 15 j)) (fun j => nI (N 16 j)) (fun j => nI (N 17 j)) (V 18) (fun j => nI (N 19 j)) (fun j => nI (N 20 j)) (fun j => nI (N 21 j)) (fun j => nI (N 22 j)) (V 23) (fun j => nI (N 24 j)) (V 25) (fun j => nI (N 26 j)) := by
  have hCc := hC
  obtain ⟨hc1, hc8, hW1, hW6, hcc0, hcc1, hcne, ha, hbb, hab⟩ := hC
  obtain ⟨q, hq, eq⟩ := pk_andE (x2 >>> ((3 : Int32) &&& 31)) (m := 15) 4 (by decide)
  refine loop_m (σ := Nat × (Nat → Nat → Nat) × (Nat → Nat → Int32)) (fun n s => wL_lawOf_398 post mc ms x2 x3 (nI c0) (nI c1) l0 am nd (nI cnt) kc ks n (nI s.1) (nI (s.2.1 0 0)) (nI (s.2.1 0 1)) (nI (s.2.1 0 2)) (nI (s.2.1 0 3)) (nI (s.2.1 0 4)) (s.2.2 0 5) (nI (s.2.1 0 6)) (nI (s.2.1 0 7)) (s.2.2 1) (fun j => nI (s.2.1 2 j)) (fun j => nI (s.2.1 3 j)) (fun j => nI (s.2.1 4 j)) (s.2.2 5) (s.2.2 6) (fun j => nI (s.2.1 7 j)) (fun j => nI (s.2.1 8 j)) (fun j => nI (s.2.1 9 j)) (fun j => nI (s.2.1 10 j)) (fun j => nI (s.2.1 11 j)) (fun j => nI (s.2.1 12 j)) (fun j => nI (s.2.1 13 j)) (fun j => be_fr (s.2.1 14 j)) (fun j => nI (s.2.1 15 j)) (fun j => nI (s.2.1 16 j)) (fun j => nI (s.2.1 17 j)) (s.2.2 18) (fun j => nI (s.2.1 19 j)) (fun j => nI (s.2.1 20 j)) (fun j => nI (s.2.1 21 j)) (fun j => nI (s.2.1 22 j)) (s.2.2 23) (fun j => nI (s.2.1 24 j)) (s.2.2 25) (fun j => nI (s.2.1 26 j))) (fun s => s.1 ≤ q ∧ ((s.1 = 0 ∧ be_bs W c0 c1 a b am nd s0 t0 12 s.2.1 s.2.2) ∨ (be_Inv cnt W c0 c1 a b am nd s0 s.2.1 s.2.2 ∧ s.2.1 0 6 ≤ 7 * s.1))) (fun s => q - s.1) ?_ (0, N, V) ⟨Nat.zero_le _, Or.inl ⟨rfl, h⟩⟩
  rintro n ⟨i, N, V⟩ ⟨hi, hI⟩ hk
  dsimp only at hi hI hk
  show wL_lawOf_398 post mc ms x2 x3 (nI c0) (nI c1) l0 am nd (nI cnt) kc ks (n + 1) (nI i) (nI (N 0 0)) (nI (N 0 1)) (nI (N 0 2)) (nI (N 0 3)) (nI (N 0 4)) (V 0 5) (nI (N 0 6)) (nI (N 0 7)) (V 1) (fun j => nI (N 2 j)) (fun j => nI (N 3 j)) (fun j => nI (N 4 j)) (V 5) (V 6) (fun j => nI (N 7 j)) (fun j => nI (N 8 j)) (fun j => nI (N 9 j)) (fun j => nI (N 10 j)) (fun j => nI (N 11 j)) (fun j => nI (N 12 j)) (fun j => nI (N 13 j)) (fun j => be_fr (N 14 j)) (fun j => nI (N 15 j)) (fun j => nI (N 16 j)) (fun j => nI (N 17 j)) (V 18) (fun j => nI (N 19 j)) (fun j => nI (N 20 j)) (fun j => nI (N 21 j)) (fun j => nI (N 22 j)) (V 23) (fun j => nI (N 24 j)) (V 25) (fun j => nI (N 26 j))
  refine pk_le q i (fun hqi => ?_) (fun hqi => ?_) eq rfl (by omega) (by omega)
  · rcases hI with ⟨_, hb⟩ | ⟨hb, hck⟩
    · have hPT := be_PT_of (by omega) hcc0 hcc1 hb
      rw [← ec] at hPT
      obtain ⟨hB, hz, e0, e1, e2, es, hP, hlen, hIn⟩ := hb
      exact be_run0 (N := N) (V := V) hCc hB hz (by rw [e0, ec]) e1 e2 es hPT (fun N' V' g g1 g2 g3 => be_law499 hCc g1 g2 g3 hs0 hs1 hsz Hp)
    · exact be_run1 (N := N) (V := V) hCc hb (by omega) (fun N' V' g g1 g2 g3 => be_law499 hCc g1 g2 g3 hs0 hs1 hsz Hp)
  · obtain ⟨s, hs, es'⟩ := pk_andE (x3 >>> (nI i &&& 31)) (m := 7) 3 (by decide)
    rw [es']
    refine be_workX (N := N) (V := V) hCc (by omega) (by omega) ec hI (fun N' V' g1 g2 => ?_)
    have e1 := g1.2.1.2.1
    have es := g1.2.1.2.2.2.1
    refine br_t rfl (be_cell (N := N') (V := V') hcc0 (br_t (by rw [es]; exact hs0) (be_cell (N := N') (V := V') hcc1 (br_t (by rw [es]; exact hs1) ?_))))
    refine br_t (show nI (N' 0 1) = 1 by rw [e1]; rfl) (be_faults1 (N := N') (V := V') hCc g1 (br_t rfl (nm_r (nI_1 i) (hk (i + 1, be_up N' 0 7 0, V') ⟨by dsimp only; omega, Or.inr ⟨?_, g2⟩⟩ (by dsimp only; omega)))))
    obtain ⟨⟨hB, hTT⟩, ⟨e0, e1, e2, es, hP⟩, j1, j2, j3, j4, j5, hD, hR⟩ := g1
    exact ⟨⟨be_B_up hB (by omega), hTT⟩, ⟨e0, e1, e2, es, hP⟩, j1, j2, j3, j4, j5, hD, hR⟩
theorem be_law119 {cnt W c0 c1 a b mc ms kc ks : Nat} {am nd l0 x2 x3 : Int32} {s0 : Nat → Int32} {post : Int32 → St0 → Prop} {N : Nat → Nat → Nat} {V : Nat → Nat → Int32} (hC : be_Cs cnt W c0 c1 a b) (h : be_Bl W c0 c1 a b am nd s0 0 N V)
    (hs0 : s0 c0 = l0) (hs1 : s0 c1 = 5) (hsz : ∀ j, j ≠ c0 → j ≠ c1 → s0 j = 0) (Hp : post 1 ()) :
    ∃ fu, wL_lawOf_119 post mc ms x2 x3 (nI a) (nI b) (nI c0) (nI c1) l0 am nd (nI cnt) kc ks fu 0 (nI (N 0 0)) (nI (N 0 1)) (nI (N 0 2)) (nI (N 0 3)) (nI (N 0 4)) (V 0 5) (nI (N 0 6)) (nI (N 0 7)) (V 1) (fun j => nI (N 2 j)) (fun j => nI (N 3 j)) (fun j => nI (N 4 j)) (V 5) (V 6) (fun j => nI (N 7 j)) (fun j => nI (N 8 j)) (fun j => nI (N 9 j)) (fun j => nI (N 10 j)) (fun j => nI (N 11 j)) (fun j => nI (N 12 j)) (fun j => nI (N 13 j)) (fun j => be_fr (N 14 j)) (fun j => nI (N 15 j)) (fun j => nI (N 16 j)) (fun j => nI (N 17 j)) (V 18) (fun j => nI (N 19 j)) (fun j => nI (N 20 j)) (fun j => nI (N 21 j)) (fun j => nI (N 22 j)) (V 23) (fun j => nI (N 24 j)) (V 25) (fun j => nI (N 26 j)) := by
  have hCc := hC
  obtain ⟨hc1, hc8, hW1, hW6, hcc0, hcc1, hcne, ha, hbb, hab⟩ := hC
  have p5a : (5 : Int32) * nI a = nI (5 * a) := pk_mul 5 a
  have p5b : (5 : Int32) * nI b = nI (5 * b) := pk_mul 5 b
  have p4a : (4 : Int32) * nI a = nI (4 * a) := pk_mul 4 a
  have p4b : (4 : Int32) * nI b = nI (4 * b) := pk_mul 4 b
  have pab : (4 : Int32) * nI a + nI b = nI (4 * a + b) := be_mulAdd 4 a b
  have pba : (4 : Int32) * nI b + nI a = nI (4 * b + a) := be_mulAdd 4 b a
  refine pk_loop (σ := (Nat → Nat → Nat) × (Nat → Nat → Int32)) (fun n i s => wL_lawOf_119 post mc ms x2 x3 (nI a) (nI b) (nI c0) (nI c1) l0 am nd (nI cnt) kc ks n (nI i) (nI (s.1 0 0)) (nI (s.1 0 1)) (nI (s.1 0 2)) (nI (s.1 0 3)) (nI (s.1 0 4)) (s.2 0 5) (nI (s.1 0 6)) (nI (s.1 0 7)) (s.2 1) (fun j => nI (s.1 2 j)) (fun j => nI (s.1 3 j)) (fun j => nI (s.1 4 j)) (s.2 5) (s.2 6) (fun j => nI (s.1 7 j)) (fun j => nI (s.1 8 j)) (fun j => nI (s.1 9 j)) (fun j => nI (s.1 10 j)) (fun j => nI (s.1 11 j)) (fun j => nI (s.1 12 j)) (fun j => nI (s.1 13 j)) (fun j => be_fr (s.1 14 j)) (fun j => nI (s.1 15 j)) (fun j => nI (s.1 16 j)) (fun j => nI (s.1 17 j)) (s.2 18) (fun j => nI (s.1 19 j)) (fun j => nI (s.1 20 j)) (fun j => nI (s.1 21 j)) (fun j => nI (s.1 22 j)) (s.2 23) (fun j => nI (s.1 24 j)) (s.2 25) (fun j => nI (s.1 26 j))) (fun i s => be_Bl W c0 c1 a b am nd s0 i s.1 s.2) cnt 0 (N, V) (by omega) h ?_ ?_
  · rintro n ⟨N, V⟩ h
    dsimp only at h
    show wL_lawOf_119 post mc ms x2 x3 (nI a) (nI b) (nI c0) (nI c1) l0 am nd (nI cnt) kc ks (n + 1) (nI cnt) (nI (N 0 0)) (nI (N 0 1)) (nI (N 0 2)) (nI (N 0 3)) (nI (N 0 4)) (V 0 5) (nI (N 0 6)) (nI (N 0 7)) (V 1) (fun j => nI (N 2 j)) (fun j => nI (N 3 j)) (fun j => nI (N 4 j)) (V 5) (V 6) (fun j => nI (N 7 j)) (fun j => nI (N 8 j)) (fun j => nI (N 9 j)) (fun j => nI (N 10 j)) (fun j => nI (N 11 j)) (fun j => nI (N 12 j)) (fun j => nI (N 13 j)) (fun j => be_fr (N 14 j)) (fun j => nI (N 15 j)) (fun j => nI (N 16 j)) (fun j => nI (N 17 j)) (V 18) (fun j => nI (N 19 j)) (fun j => nI (N 20 j)) (fun j => nI (N 21 j)) (fun j => nI (N 22 j)) (V 23) (fun j => nI (N 24 j)) (V 25) (fun j => nI (N 26 j))
    obtain ⟨t0, ec⟩ : ∃ t0, cnt = t0 + 1 := ⟨cnt - 1, by omega⟩
    have hb : be_bs W c0 c1 a b am nd s0 t0 10 N V := by
      obtain ⟨hB, hz, e0, e1, e2, es, hP⟩ := h
      rw [ec] at e0 hP
      exact ⟨hB, hz, e0, e1, e2, es, fun j hj => hP j (by omega), (hP t0 (by omega)).1, (hP t0 (by omega)).2⟩
    refine pk_le cnt cnt (fun _ => ?_) (fun z => absurd z (by omega))
    refine be_addB (N := N) (V := V) (op := 5) (pl := 4 * b + a) (by omega) hb (by omega) (by omega) (by omega) rfl pba rfl (fun N1 V1 b1 => br_t rfl ?_)
    refine be_addB (N := N1) (V := V1) (op := 8) (pl := 4 * b) (by omega) b1 (by omega) (by omega) (by omega) rfl p4b rfl (fun N2 V2 b2 => br_t rfl ?_)
    have f0 := b2.2.2.1
    have f1 := b2.2.2.2.1
    have f2 := b2.2.2.2.2.2.2.2.1
    refine be_addF (N := N2) (V := V2) (t := t0) (op := 8) (pl := 0) f1 f0 (by omega) f2 (by omega) (by omega) rfl rfl (br_t rfl ?_)
    refine pk_eq cnt 8 (fun z => ?_) (fun z => ?_)
    · exact be_beginF (N := N2) (V := V2) f1 (by omega) (br_t rfl (be_law398 hCc ec b2 hs0 hs1 hsz Hp))
    · exact be_law398 hCc ec b2 hs0 hs1 hsz Hp
  · rintro n t ⟨N, V⟩ ht h hk
    dsimp only at h hk
    show wL_lawOf_119 post mc ms x2 x3 (nI a) (nI b) (nI c0) (nI c1) l0 am nd (nI cnt) kc ks (n + 1) (nI t) (nI (N 0 0)) (nI (N 0 1)) (nI (N 0 2)) (nI (N 0 3)) (nI (N 0 4)) (V 0 5) (nI (N 0 6)) (nI (N 0 7)) (V 1) (fun j => nI (N 2 j)) (fun j => nI (N 3 j)) (fun j => nI (N 4 j)) (V 5) (V 6) (fun j => nI (N 7 j)) (fun j => nI (N 8 j)) (fun j => nI (N 9 j)) (fun j => nI (N 10 j)) (fun j => nI (N 11 j)) (fun j => nI (N 12 j)) (fun j => nI (N 13 j)) (fun j => be_fr (N 14 j)) (fun j => nI (N 15 j)) (fun j => nI (N 16 j)) (fun j => nI (N 17 j)) (V 18) (fun j => nI (N 19 j)) (fun j => nI (N 20 j)) (fun j => nI (N 21 j)) (fun j => nI (N 22 j)) (V 23) (fun j => nI (N 24 j)) (V 25) (fun j => nI (N 26 j))
    refine pk_le cnt t (fun z => absurd z (by omega)) (fun _ => ?_)
    refine be_beginB (N := N) (V := V) (by omega) h (fun r N0 b0 => ?_)
    refine be_addB (N := N0) (V := V) (op := 3) (pl := 5 * a) (by omega) b0 (by omega) (by omega) (by omega) rfl p5a rfl (fun N1 V1 b1 => br_t rfl ?_)
    refine be_addB (N := N1) (V := V1) (op := 7) (pl := 4 * a + b) (by omega) b1 (by omega) (by omega) (by omega) rfl pab rfl (fun N2 V2 b2 => br_t rfl ?_)
    refine be_addB (N := N2) (V := V2) (op := 0) (pl := 5 * b) (by omega) b2 (by omega) (by omega) (by omega) rfl p5b rfl (fun N3 V3 b3 => br_t rfl ?_)
    refine be_addB (N := N3) (V := V3) (op := 2) (pl := 4 * a + b) (by omega) b3 (by omega) (by omega) (by omega) rfl pab rfl (fun N4 V4 b4 => br_t rfl ?_)
    refine be_addB (N := N4) (V := V4) (op := 4) (pl := 4 * a) (by omega) b4 (by omega) (by omega) (by omega) rfl p4a rfl (fun N5 V5 b5 => br_t rfl ?_)
    refine be_addB (N := N5) (V := V5) (op := 8) (pl := 4 * a) (by omega) b5 (by omega) (by omega) (by omega) rfl p4a rfl (fun N6 V6 b6 => br_t rfl ?_)
    refine be_addB (N := N6) (V := V6) (op := 3) (pl := 4 * a + b) (by omega) b6 (by omega) (by omega) (by omega) rfl pab rfl (fun N7 V7 b7 => br_t rfl ?_)
    refine be_addB (N := N7) (V := V7) (op := 1) (pl := 4 * a + b) (by omega) b7 (by omega) (by omega) (by omega) rfl pab rfl (fun N8 V8 b8 => br_t rfl ?_)
    refine be_addB (N := N8) (V := V8) (op := 4) (pl := 5 * a) (by omega) b8 (by omega) (by omega) (by omega) rfl p5a rfl (fun N9 V9 b9 => br_t rfl ?_)
    refine be_addB (N := N9) (V := V9) (op := 8) (pl := 4 * a) (by omega) b9 (by omega) (by omega) (by omega) rfl p4a rfl (fun N10 V10 b10 => br_t rfl ?_)
    refine nm_r (nI_1 t) (hk (N10, V10) ?_)
    obtain ⟨hB, hz, e0, e1, e2, es, hP, hlen, hI⟩ := b10
    refine ⟨hB, hz, e0, e1, e2, es, fun j hj => ?_⟩
    rcases Nat.lt_or_ge j t with q | q
    · exact hP j q
    · have : j = t := by omega
      subst this
      exact ⟨hlen, hI⟩
theorem be_init {post : St2 → Prop} {x : Nat} (hx : x < 16) (H : ∀ W, 1 ≤ W → W ≤ 6 → post (be_cn (be_up (be_fs (fun _ _ => 0) 14 (fun _ => 1)) 0 2 W) (fun _ _ => 0))) : wpX_init post 26 1164 (0, 0, 0, 0, 0, 0, 0, 0) (nI x) := by
  have H' : ∀ W, 1 ≤ W → W ≤ 6 → post (0, 0, nI W, 0, 0, 0, 0, 0, (fun _ => 0), (fun _ => 0), (fun _ => 0), (fun _ => 0), (fun _ => 0), (fun _ => 0), (fun _ => 0), (fun _ => 0), (fun _ => 0), (fun _ => 0), (fun _ => 0), (fun _ => 0), (fun _ => 0), (fun _ => 0), (fun _ => 0), (fun _ => 0), (fun _ => 0), (fun _ => 0), (fun _ => 0), (fun _ => 0), (fun _ => 0), (fun _ => 0), (fun _ => 0), (fun _ => 0), (fun _ => 0), (fun _ => 0)) := by
    intro W h1 h6
    have h := H W h1 h6
    have e : (fun j : Nat => be_fr (be_up (be_fs (fun _ _ => 0) 14 (fun _ => 1)) 0 2 W 14 j)) = fun _ => (0 : Int32) := by
      funext j
      show be_fr 1 = 0
      decide
    unfold be_cn at h
    rw [e] at h
    exact h
  unfold wpX_init
  dsimp only
  refine ⟨by omega, by omega, by omega, by omega, by omega, by omega, by omega, by omega, by omega, by omega, by omega, by omega, by omega, by omega, by omega, by omega, by omega, by omega, by omega, by omega, by omega, by omega, by omega, by omega, by omega, by omega, by omega, by omega, by omega, by omega, by omega, by omega, by omega, by omega, by omega, by omega, by omega, by omega, by omega, by omega, by omega, by omega, by omega, by omega, by omega, by omega, by omega, by omega, by omega, by omega, by omega, by omega, ?_⟩
  exact pk_le 1 x (fun h => pk_le x 6 (fun h6 => H' x h h6) (fun h6 => H' 6 (by omega) (by omega))) (fun h => H' 1 (by omega) (by omega))
theorem be_lawOf {post : Int32 → St0 → Prop} {p0 p1 p2 p3 : Int32} (Hp : post 1 ()) : wpL_lawOf post 27 1198 () p0 p1 p2 p3 := by
  unfold wpL_lawOf
  obtain ⟨wn, hwn, ew⟩ := pk_andE p3 (m := 15) 4 (by decide)
  obtain ⟨a, ha, ea⟩ := pk_andE p0 (m := 3) 2 (by decide)
  obtain ⟨q, hq, eq⟩ := pk_andE (p0 >>> ((2 : Int32) &&& 31)) (m := 255) 8 (by decide)
  obtain ⟨c0, hc0, ec0⟩ := pk_andE (p0 >>> ((10 : Int32) &&& 31)) (m := 15) 4 (by decide)
  obtain ⟨m, hm, em⟩ := pk_andE (p0 >>> ((14 : Int32) &&& 31)) (m := 7) 3 (by decide)
  obtain ⟨k, hk, ek⟩ := pk_andE p2 (m := 7) 3 (by decide)
  rw [ew]
  have eb : ((nI a + 1) + (nI q - nI q / 3 * 3)) &&& 3 = nI ((a + 1 + q % 3) % 4) := by
    have e3 : nI q - nI q / 3 * 3 = nI (q % 3) := pk_rem (d := 3) (by omega) (by omega) (by omega)
    rw [e3, nI_1, nI_add]
    exact pk_andN (by omega) 2 (by decide)
  have ec1 : ((nI c0 + 1) + nI m) &&& 15 = nI ((c0 + 1 + m) % 16) := by
    rw [nI_1, nI_add]
    exact pk_andN (by omega) 4 (by decide)
  have en : (1 : Int32) + nI k = nI (k + 1) := by
    rw [show (1 : Int32) = nI 1 from rfl, nI_add, Nat.add_comm]
  have main : ∀ W, 1 ≤ W → W ≤ 6 → ∀ l0 am nd : Int32, ∃ fu, wL_lawOf_119 post 27 1198 p2 p3 (nI a) (nI ((a + 1 + q % 3) % 4)) (nI c0) (nI ((c0 + 1 + m) % 16)) l0 am nd (nI (k + 1)) (1 + 26) (34 + 1164) fu 0 (nI ((be_up (be_fs (fun _ _ => 0) 14 (fun _ => 1)) 0 2 W) 0 0)) (nI ((be_up (be_fs (fun _ _ => 0) 14 (fun _ => 1)) 0 2 W) 0 1)) (nI ((be_up (be_fs (fun _ _ => 0) 14 (fun _ => 1)) 0 2 W) 0 2)) (nI ((be_up (be_fs (fun _ _ => 0) 14 (fun _ => 1)) 0 2 W) 0 3)) (nI ((be_up (be_fs (fun _ _ => 0) 14 (fun _ => 1)) 0 2 W) 0 4)) ((be_vp (be_vp (fun _ _ => 0) 1 c0 l0) 1 ((c0 + 1 + m) % 16) 5) 0 5) (nI ((be_up (be_fs (fun _ _ => 0) 14 (fun _ => 1)) 0 2 W) 0 6)) (nI ((be_up (be_fs (fun _ _ => 0) 14 (fun _ => 1)) 0 2 W) 0 7)) ((be_vp (be_vp (fun _ _ => 0) 1 c0 l0) 1 ((c0 + 1 + m) % 16) 5) 1) (fun j => nI ((be_up (be_fs (fun _ _ => 0) 14 (fun _ => 1)) 0 2 W) 2 j)) (fun j => nI ((be_up (be_fs (fun _ _ => 0) 14 (fun _ => 1)) 0 2 W) 3 j)) (fun j => nI ((be_up (be_fs (fun _ _ => 0) 14 (fun _ => 1)) 0 2 W) 4 j)) ((be_vp (be_vp (fun _ _ => 0) 1 c0 l0) 1 ((c0 + 1 + m) % 16) 5) 5) ((be_vp (be_vp (fun _ _ => 0) 1 c0 l0) 1 ((c0 + 1 + m) % 16) 5) 6) (fun j => nI ((be_up (be_fs (fun _ _ => 0) 14 (fun _ => 1)) 0 2 W) 7 j)) (fun j => nI ((be_up (be_fs (fun _ _ => 0) 14 (fun _ => 1)) 0 2 W) 8 j)) (fun j => nI ((be_up (be_fs (fun _ _ => 0) 14 (fun _ => 1)) 0 2 W) 9 j)) (fun j => nI ((be_up (be_fs (fun _ _ => 0) 14 (fun _ => 1)) 0 2 W) 10 j)) (fun j => nI ((be_up (be_fs (fun _ _ => 0) 14 (fun _ => 1)) 0 2 W) 11 j)) (fun j => nI ((be_up (be_fs (fun _ _ => 0) 14 (fun _ => 1)) 0 2 W) 12 j)) (fun j => nI ((be_up (be_fs (fun _ _ => 0) 14 (fun _ => 1)) 0 2 W) 13 j)) (fun j => be_fr ((be_up (be_fs (fun _ _ => 0) 14 (fun _ => 1)) 0 2 W) 14 j)) (fun j => nI ((be_up (be_fs (fun _ _ => 0) 14 (fun _ => 1)) 0 2 W) 15 j)) (fun j => nI ((be_up (be_fs (fun _ _ => 0) 14 (fun _ => 1)) 0 2 W) 16 j)) (fun j => nI ((be_up (be_fs (fun _ _ => 0) 14 (fun _ => 1)) 0 2 W) 17 j)) ((be_vp (be_vp (fun _ _ => 0) 1 c0 l0) 1 ((c0 + 1 + m) % 16) 5) 18) (fun j => nI ((be_up (be_fs (fun _ _ => 0) 14 (fun _ => 1)) 0 2 W) 19 j)) (fun j => nI ((be_up (be_fs (fun _ _ => 0) 14 (fun _ => 1)) 0 2 W) 20 j)) (fun j => nI ((be_up (be_fs (fun _ _ => 0) 14 (fun _ => 1)) 0 2 W) 21 j)) (fun j => nI ((be_up (be_fs (fun _ _ => 0) 14 (fun _ => 1)) 0 2 W) 22 j)) ((be_vp (be_vp (fun _ _ => 0) 1 c0 l0) 1 ((c0 + 1 + m) % 16) 5) 23) (fun j => nI ((be_up (be_fs (fun _ _ => 0) 14 (fun _ => 1)) 0 2 W) 24 j)) ((be_vp (be_vp (fun _ _ => 0) 1 c0 l0) 1 ((c0 + 1 + m) % 16) 5) 25) (fun j => nI ((be_up (be_fs (fun _ _ => 0) 14 (fun _ => 1)) 0 2 W) 26 j)) := by
    intro W hW1 hW6 l0 am nd
    refine be_law119 (W := W) (s0 := upd (upd (fun _ => 0) c0 l0) ((c0 + 1 + m) % 16) 5) ⟨by omega, by omega, hW1, hW6, by omega, by omega, by omega, by omega, by omega, by omega⟩ ⟨?_, fun j => ⟨rfl, rfl, rfl, rfl, rfl, rfl, rfl, rfl⟩, rfl, rfl, rfl, rfl, fun j hj => absurd hj (by omega)⟩ ?_ pk_us (fun j h0 h1 => ?_) Hp
    · exact be_B_up (be_B_fs (fun _ _ => by omega) (fun _ => by omega)) (by omega)
    · rw [pk_un (by omega), pk_us]
    · rw [pk_un h1, pk_un h0]
  refine ⟨by omega, by omega, 26, 1164, by omega, by omega, be_init hwn (fun W hW1 hW6 => ?_)⟩
  refine nm_r ea ⟨by decide, nm_r (e' := nI ((a + 1 + q % 3) % 4)) (by rw [eq]; exact eb) (nm_r ec0 (nm_r (e' := nI ((c0 + 1 + m) % 16)) (by rw [em]; exact ec1) ⟨by decide, nm_e ⟨by decide, nm_e ⟨by decide, nm_e (nm_r (e' := nI (k + 1)) (by rw [ek]; exact en) ?_)⟩⟩⟩))⟩
  refine be_poke (N := be_up (be_fs (fun _ _ => 0) 14 (fun _ => 1)) 0 2 W) (V := fun _ _ => 0) rfl hc0 ?_
  refine be_poke (N := be_up (be_fs (fun _ _ => 0) 14 (fun _ => 1)) 0 2 W) (V := be_vp (fun _ _ => 0) 1 c0 (p1 - p1 / 1000 * 1000)) rfl (by omega) ?_
  exact main W hW1 hW6 _ _ _
theorem be_cellAt {post : Int32 → Prop} {L k : Nat} {xs : Nat → Int32} (hL : L ≤ 4) (hk : k < 4) (H : ∀ x, post x) : wpL_cellAt post L xs () (nI k) := by
  unfold wpL_cellAt
  exact pk_le L k (fun _ => H _) (fun h => ⟨pk_in k L h rfl (by omega), H _⟩)
theorem i_vc (xs : Nat → Int32) (L : Nat) (hL : L ≤ 4) : wpL_law (fun r => r = 1) L xs := by
  unfold wpL_law
  exact be_cellAt (k := 0) hL (by omega) (fun x0 => be_cellAt (k := 1) hL (by omega) (fun x1 => be_cellAt (k := 2) hL (by omega) (fun x2 => be_cellAt (k := 3) hL (by omega) (fun x3 => ⟨27, 1198, by omega, by omega, be_lawOf rfl⟩))))
end
