section
/-! ===== the pure picture: polynomials as naturals below 65536, monomials as naturals below 16; a list of pairs (polynomial, head) ===== -/
def gb_tm (f m : Nat) : Nat → Nat
  | 0 => 0
  | k + 1 => if f / 2 ^ k % 2 = 0 then gb_tm f m k else gb_tm f m k ^^^ 2 ^ (k ||| m)
def gb_dv (m : Nat) : List (Nat × Nat) → Option (Nat × Nat)
  | [] => none
  | e :: l => if e.2 &&& (15 ^^^ m) = 0 then some e else gb_dv m l
def gb_st (L : List (Nat × Nat)) (k r : Nat) : Nat :=
  if r / 2 ^ k % 2 = 0 then r else match gb_dv k L with
    | none => r
    | some e => r ^^^ gb_tm e.1 (k &&& (15 ^^^ e.2)) 16
def gb_rd (L : List (Nat × Nat)) : Nat → Nat → Nat
  | 0, r => r
  | k + 1, r => gb_rd L k (gb_st L k r)
def gb_hd (f : Nat) : Nat → Nat
  | 0 => 0
  | k + 1 => if f / 2 ^ k % 2 = 0 then gb_hd f k else k
def gb_ti (L : List (Nat × Nat)) (f : Nat) : List (Nat × Nat) :=
  if gb_rd L 16 f = 0 then L else if L.length < 32 then L ++ [(gb_rd L 16 f, gb_hd (gb_rd L 16 f) 16)] else L
def gb_sq (p h : Nat) (L : List (Nat × Nat)) : Nat → List (Nat × Nat)
  | 0 => L
  | v + 1 => if h / 2 ^ v % 2 = 0 then gb_sq p h L v else gb_ti (gb_sq p h L v) (gb_tm p (2 ^ v) 16 ^^^ p)
def gb_d1 (p h : Nat) (e : Nat × Nat) : Nat :=
  gb_tm p ((h ||| e.2) &&& (15 ^^^ h)) 16 ^^^ gb_tm e.1 ((h ||| e.2) &&& (15 ^^^ e.2)) 16
def gb_df (p h : Nat) (L : List (Nat × Nat)) : Nat → List (Nat × Nat)
  | 0 => L
  | j + 1 => match (gb_df p h L j)[j]? with
    | none => gb_df p h L j
    | some e => gb_ti (gb_df p h L j) (gb_d1 p h e)
def gb_c4 : Nat → Nat → List (Nat × Nat) → List (Nat × Nat)
  | 0, _, L => L
  | n + 1, i, L => match L[i]? with
    | none => L
    | some e => gb_c4 n (i + 1) (gb_df e.1 e.2 (gb_sq e.1 e.2 L 4) i)
def gb_c7 (g : Nat → Nat) (s : Nat) : Nat → List (Nat × Nat)
  | 0 => []
  | i + 1 => if s / 2 ^ i % 2 = 0 then gb_c7 g s i else gb_ti (gb_c7 g s i) (g i)
def gb_cp (g : Nat → Nat) (s : Nat) : List (Nat × Nat) := gb_c4 33 0 (gb_c7 g s 6)
def gb_bo (L : List (Nat × Nat)) (m : Nat) : Nat := match gb_dv m L with
  | none => 0
  | some _ => 2 ^ m
def gb_bd (L : List (Nat × Nat)) : Nat → Nat
  | 0 => 0
  | m + 1 => gb_bd L m ||| gb_bo L m
def gb_lb (L : List (Nat × Nat)) (m : Nat) : Nat → Nat → Bool
  | 0, _ => true
  | n + 1, v => if m &&& (15 ^^^ 2 ^ v) = m then gb_lb L m n (v + 1) else match gb_dv (m &&& (15 ^^^ 2 ^ v)) L with
    | none => gb_lb L m n (v + 1)
    | some _ => false
def gb_ls (L : List (Nat × Nat)) (m : Nat) : Bool := match gb_dv m L with
  | none => false
  | some _ => gb_lb L m 4 0
def gb_ba (L : List (Nat × Nat)) : Nat → List Nat
  | 0 => []
  | m + 1 => match gb_ls L m with
    | true => gb_ba L m ++ [2 ^ m ^^^ gb_rd L 16 (2 ^ m)]
    | false => gb_ba L m
def gb_va (f p : Nat) : Nat → Nat
  | 0 => 0
  | m + 1 => if m &&& (15 ^^^ p) = 0 then gb_va f p m ^^^ (f / 2 ^ m % 2) else gb_va f p m
def gb_vn (p : Nat) : List Nat → Bool
  | [] => true
  | b :: l => if gb_va b p 16 = 0 then gb_vn p l else false
def gb_z1 (B : List Nat) (p : Nat) : Nat := match gb_vn p B with
  | true => 2 ^ p
  | false => 0
def gb_zs (B : List Nat) : Nat → Nat
  | 0 => 0
  | p + 1 => gb_zs B p ||| gb_z1 B p
def gb_zc (z : Nat) : Nat → Nat
  | 0 => 0
  | p + 1 => gb_zc z p + z / 2 ^ p % 2
def gb_vs (z v : Nat) : Nat → Nat
  | 0 => 0
  | p + 1 => if z / 2 ^ p % 2 = 0 then gb_vs z v p else gb_vs z v p ||| 2 ^ (p / 2 ^ v % 2)
def gb_sn (z q : Nat) : Nat → Nat
  | 0 => 0
  | p + 1 => if z / 2 ^ p % 2 = 0 then gb_sn z q p else gb_sn z q p ||| 2 ^ (p &&& q)
def gb_rl (q s : Nat) : Nat → Nat → Bool
  | 0, _ => false
  | n + 1, i => if i &&& (15 ^^^ q) = 0 then (if s / 2 ^ i % 2 = 0 then true else gb_rl q s n (i + 1)) else gb_rl q s n (i + 1)
/-- the two generators -/
def gb_gn (f g : Nat) : Nat → Nat
  | 0 => f
  | 1 => g
  | _ => 0
/-- the law's checks over the picture -/
def gb_ok (v w a b : Nat) : Bool :=
  let f := 2 ^ 2 ^ v ||| a
  let g := 2 ^ 2 ^ w ||| b
  let L := gb_cp (gb_gn f g) 3
  let B := gb_ba L 16
  let z := gb_zs B 16
  decide (gb_zc z 16 = (if v = w then (if a = b then 8 else 0) else 4)) &&
  decide (gb_vs z v 16 = (if v = w then (if a = b then 2 ^ a else 0) else 2 ^ a)) &&
  decide (B.length = (if v = w then 1 else 2)) &&
  decide (gb_rd L 16 (2 ^ (2 ^ v ||| 2 ^ w)) = (if v = w then (if a = b then a &&& b else 0) else a &&& b)) &&
  decide (gb_rd (gb_cp (gb_gn f g) 1) 16 g = 0 ↔ v = w ∧ a = b) &&
  gb_rl (2 ^ v) (gb_sn z (2 ^ v) 16) 16 0 &&
  decide (gb_bd L 16 % 2 = 1 ↔ v = w ∧ a ≠ b)
end
section
theorem gb_all : ∀ v, v < 4 → ∀ w, w < 4 → ∀ a, a < 2 → ∀ b, b < 2 → gb_ok v w a b = true := by decide +kernel
end
section
/-! ===== ints and naturals ===== -/
theorem gb_sl : ∀ k, k < 32 → ((nI k &&& 31).toBitVec.smod 32).toNat = k := by decide +kernel
theorem gb_z {n : Nat} (h : n < 65536) : nI n = 0 ↔ n = 0 := nI_eq (b := 0) (by omega) (by omega)
theorem gb_bit {f k : Nat} (hf : f < 65536) (hk : k < 16) : (nI f >>> (nI k &&& 31)) &&& 1 = nI (f / 2 ^ k % 2) := by
  rw [pk_shrN (by omega) (nI k &&& 31) k (gb_sl k (by omega))]
  have h : f / 2 ^ k < 2 ^ 32 := Nat.lt_of_le_of_lt (Nat.div_le_self _ _) (by omega)
  exact pk_andN h 1 (by decide)
theorem gb_b0 {f k : Nat} (hf : f < 65536) (hk : k < 16) : ((nI f >>> (nI k &&& 31)) &&& 1) = 0 ↔ f / 2 ^ k % 2 = 0 := by
  rw [gb_bit hf hk]
  have h : f / 2 ^ k % 2 < 2 := Nat.mod_lt _ (by decide)
  exact gb_z (by omega)
theorem gb_sh : ∀ k, k < 16 → (1 : Int32) <<< (nI k &&& 31) = nI (2 ^ k) := by decide +kernel
theorem gb_an : ∀ h, h < 16 → ∀ m, m < 16 → nI h &&& (nI m ^^^ (-1)) = nI (h &&& (15 ^^^ m)) := by decide +kernel
theorem gb_lsn : ∀ m, m < 16 → ∀ v, v < 4 → nI m &&& (((1 : Int32) <<< (nI v &&& 31)) ^^^ (-1)) = nI (m &&& (15 ^^^ 2 ^ v)) := by decide +kernel
theorem gb_and4 : ∀ h, h < 16 → ∀ m, m < 16 → nI h &&& nI m = nI (h &&& m) := by decide +kernel
theorem gb_i8 : ∀ h, h < 16 → (nI h).toInt8.toInt32 = nI h := by decide +kernel
theorem gb_xor (a b : Nat) : nI a ^^^ nI b = nI (a ^^^ b) := by
  apply Int32.toBitVec_inj.1
  show BitVec.ofNat 32 a ^^^ BitVec.ofNat 32 b = BitVec.ofNat 32 (a ^^^ b)
  apply BitVec.eq_of_getLsbD_eq
  intro i hi
  simp [hi]
theorem gb_or (a b : Nat) : nI a ||| nI b = nI (a ||| b) := by
  apply Int32.toBitVec_inj.1
  show BitVec.ofNat 32 a ||| BitVec.ofNat 32 b = BitVec.ofNat 32 (a ||| b)
  apply BitVec.eq_of_getLsbD_eq
  intro i hi
  simp [hi]
theorem gb_or4 {a b : Nat} (ha : a < 16) (hb : b < 16) : a ||| b < 16 := Nat.or_lt_two_pow (n := 4) ha hb
theorem gb_la {a b : Nat} (ha : a < 16) : a &&& b < 16 := Nat.lt_of_le_of_lt Nat.and_le_left ha
theorem gb_x16 {a b : Nat} (ha : a < 65536) (hb : b < 65536) : a ^^^ b < 65536 := Nat.xor_lt_two_pow (n := 16) ha hb
theorem gb_o16 {a b : Nat} (ha : a < 65536) (hb : b < 65536) : a ||| b < 65536 := Nat.or_lt_two_pow (n := 16) ha hb
theorem gb_p16 : ∀ k, k < 16 → 2 ^ k < 65536 := by decide +kernel
theorem gb_p4 : ∀ k, k < 4 → 2 ^ k < 16 := by decide +kernel
/-! ===== bounds of the picture ===== -/
theorem gb_tm_lt (f : Nat) {m : Nat} (hm : m < 16) (k : Nat) (hk : k ≤ 16) : gb_tm f m k < 65536 := by
  induction k with
  | zero => show 0 < 65536; decide
  | succ k ih =>
    rw [gb_tm]
    split
    · exact ih (by omega)
    · exact gb_x16 (ih (by omega)) (gb_p16 _ (gb_or4 (by omega) hm))
theorem gb_st_lt (L : List (Nat × Nat)) {k r : Nat} (hk : k < 16) (hr : r < 65536) : gb_st L k r < 65536 := by
  unfold gb_st
  split
  · exact hr
  · split
    · exact hr
    · exact gb_x16 hr (gb_tm_lt _ (gb_la hk) 16 (by omega))
theorem gb_rd_lt (L : List (Nat × Nat)) (k : Nat) (hk : k ≤ 16) (r : Nat) (hr : r < 65536) : gb_rd L k r < 65536 := by
  induction k generalizing r with
  | zero => exact hr
  | succ k ih => exact ih (by omega) _ (gb_st_lt L (by omega) hr)
theorem gb_hd_lt (f k : Nat) (hk : k ≤ 16) : gb_hd f k < 16 := by
  induction k with
  | zero => show 0 < 16; decide
  | succ k ih =>
    rw [gb_hd]
    split
    · exact ih (by omega)
    · omega
theorem gb_d1_lt {p h : Nat} {e : Nat × Nat} (hh : h < 16) (he : e.2 < 16) : gb_d1 p h e < 65536 :=
  gb_x16 (gb_tm_lt _ (gb_la (gb_or4 hh he)) 16 (by omega)) (gb_tm_lt _ (gb_la (gb_or4 hh he)) 16 (by omega))
/-! ===== the list only grows behind ===== -/
theorem gb_ti_get {L : List (Nat × Nat)} {i : Nat} {e : Nat × Nat} (f : Nat) (h : L[i]? = some e) : (gb_ti L f)[i]? = some e := by
  unfold gb_ti
  split
  · exact h
  · split
    · rw [List.getElem?_append_left (List.getElem?_eq_some_iff.mp h).1]
      exact h
    · exact h
theorem gb_sq_get {L : List (Nat × Nat)} {i : Nat} {e : Nat × Nat} (p q : Nat) (h : L[i]? = some e) (v : Nat) : (gb_sq p q L v)[i]? = some e := by
  induction v with
  | zero => exact h
  | succ v ih =>
    rw [gb_sq]
    split
    · exact ih
    · exact gb_ti_get _ ih
theorem gb_df_get {L : List (Nat × Nat)} {i : Nat} {e : Nat × Nat} (p q : Nat) (h : L[i]? = some e) (j : Nat) : (gb_df p q L j)[i]? = some e := by
  induction j with
  | zero => exact h
  | succ j ih =>
    rw [gb_df]
    split
    · exact ih
    · exact gb_ti_get _ ih
end
section
/-! ===== the list's image in a state ===== -/
def gb_M (L : List (Nat × Nat)) (sz : Int32) (a2 a3 : Nat → Int32) : Prop :=
  sz = nI L.length ∧ L.length ≤ 32 ∧ ∀ i e, L[i]? = some e → a2 i = nI e.1 ∧ a3 i = nI e.2 ∧ e.1 < 65536 ∧ e.2 < 16
theorem gb_M_in {L : List (Nat × Nat)} {sz : Int32} {a2 a3 : Nat → Int32} (hM : gb_M L sz a2 a3) {i : Nat} {e : Nat × Nat} (h : L[i]? = some e) : i < 32 :=
  Nat.lt_of_lt_of_le (List.getElem?_eq_some_iff.mp h).1 hM.2.1
theorem gb_M_0 (a2 a3 : Nat → Int32) : gb_M [] 0 a2 a3 := by
  refine ⟨rfl, by decide, fun i e h => ?_⟩
  rw [List.getElem?_nil] at h
  exact absurd h.symm (Option.some_ne_none e)
theorem gb_M_add {L : List (Nat × Nat)} {sz : Int32} {a2 a3 : Nat → Int32} (hM : gb_M L sz a2 a3) (hl : L.length < 32) {p h : Nat} (hp : p < 65536) (hh : h < 16) :
    gb_M (L ++ [(p, h)]) (nI L.length + 1) (upd a2 L.length (nI p)) (upd a3 L.length (nI h).toInt8.toInt32) := by
  have el : (L ++ [(p, h)]).length = L.length + 1 := by rw [List.length_append]; rfl
  refine ⟨by rw [el]; exact nI_1 _, by omega, fun i e he => ?_⟩
  by_cases c : i < L.length
  · rw [List.getElem?_append_left c] at he
    rw [pk_un (by omega), pk_un (by omega)]
    exact hM.2.2 i e he
  · have hi := (List.getElem?_eq_some_iff.mp he).1
    have ei : i = L.length := by omega
    subst ei
    rw [List.getElem?_append_right (Nat.le_refl _), Nat.sub_self] at he
    have ee : (p, h) = e := Option.some.inj he
    subst ee
    rw [pk_us, pk_us, gb_i8 h hh]
    exact ⟨rfl, rfl, hp, hh⟩
/-! ===== times, divisor, reduce, headOf, takeIn ===== -/
theorem gb_times {post : Int32 → Prop} {f m : Nat} (hf : f < 65536) (hm : m < 16) (hp : post (nI (gb_tm f m 16))) : wpX_times post () (nI f) (nI m) := by
  refine pk_loop (fun n i s => wX_times_4 post (nI f) (nI m) n s (nI i)) (fun i s => s = nI (gb_tm f m i)) 16 0 0 (by omega) rfl ?_ ?_
  · intro n s h
    refine pk_le 16 16 (fun _ => ?_) (fun z => absurd z (by omega))
    rw [h]
    exact hp
  · intro n i s hi h hw
    refine pk_le 16 i (fun z => absurd z (by omega)) (fun _ => ek_if (gb_b0 hf hi) (fun c => nm_r (nI_1 i) (hw _ ?_)) (fun c => nm_e (nm_r (nI_1 i) (hw _ ?_))))
    · rw [gb_tm, if_pos c]
      exact h
    · rw [gb_tm, if_neg c, h, gb_or, gb_sh _ (gb_or4 hi hm), gb_xor]
theorem gb_divisor {post : Int32 → Prop} {pr kn sz bc bs zs : Int32} {a1 a2 a3 a4 : Nat → Int32} {L : List (Nat × Nat)} {m : Nat} (hM : gb_M L sz a2 a3) (hm : m < 16)
    (h0 : gb_dv m L = none → post (-1)) (h1 : ∀ i e, L[i]? = some e → gb_dv m L = some e → post (nI i)) :
    wpX_divisor post (pr, kn, sz, bc, bs, zs, a1, a2, a3, a4) (nI m) := by
  obtain ⟨hs, hl, hg⟩ := hM
  subst hs
  have key : ∀ d i, i + d = L.length → gb_dv m (L.drop i) = gb_dv m L → wX_divisor_2 post (nI m) pr kn (nI L.length) bc bs zs a1 a2 a3 a4 (d + 1) (nI i) := by
    intro d
    induction d with
    | zero =>
      intro i hi he
      refine pk_le L.length i (fun _ => h0 ?_) (fun z => absurd z (by omega))
      rw [← he, List.drop_eq_nil_of_le (by omega)]
      rfl
    | succ d ih =>
      intro i hi he
      have hil : i < L.length := by omega
      have e1 : L[i]? = some L[i] := List.getElem?_eq_getElem hil
      obtain ⟨g2, g3, g4, g5⟩ := hg i L[i] e1
      rw [List.drop_eq_getElem_cons hil] at he
      refine pk_le L.length i (fun z => absurd z (by omega)) (fun _ => ⟨pk_in i 32 (by omega), ?_⟩)
      rw [nI_clamp (show i < 2 ^ 31 by omega), g3, gb_an _ g5 _ hm]
      refine ek_if (gb_z (Nat.lt_trans (gb_la g5) (by omega))) (fun c => h1 i L[i] e1 ?_) (fun c => nm_r (nI_1 i) (ih (i + 1) (by omega) ?_))
      · rw [← he, gb_dv, if_pos c]
      · rw [← he, gb_dv, if_neg c]
  exact ⟨L.length + 1, key L.length 0 (by omega) rfl⟩
theorem gb_reduce {post : Int32 → Prop} {pr kn sz bc bs zs : Int32} {a1 a2 a3 a4 : Nat → Int32} {L : List (Nat × Nat)} {f : Nat} (hM : gb_M L sz a2 a3) (hf : f < 65536)
    (hp : post (nI (gb_rd L 16 f))) : wpX_reduce post (pr, kn, sz, bc, bs, zs, a1, a2, a3, a4) (nI f) := by
  have key : ∀ k, k ≤ 16 → ∀ r, r < 65536 → post (nI (gb_rd L k r)) → wX_reduce_5 post pr kn sz bc bs zs a1 a2 a3 a4 (k + 1) (nI r) (nI k + (-1)) := by
    intro k
    induction k with
    | zero =>
      intro _ r hr hp
      exact br_t (by decide) hp
    | succ k ih =>
      intro hk r hr hp
      rw [pk_m1]
      have hk6 : k < 16 := by omega
      have IH := ih (by omega) (gb_st L k r) (gb_st_lt L hk6 hr) hp
      refine br_f (nI_pos (by omega)) (ek_if (gb_b0 hr hk6) (fun c => ?_) (fun c => ?_))
      · have es : gb_st L k r = r := by unfold gb_st; rw [if_pos c]
        rw [es] at IH
        exact br_t (by decide) (nm_e IH)
      · refine gb_divisor hM hk6 (fun hd => ?_) (fun i e he hd => ?_)
        · have es : gb_st L k r = r := by unfold gb_st; rw [if_neg c, hd]
          rw [es] at IH
          exact br_t (by decide) (nm_e IH)
        · have es : gb_st L k r = r ^^^ gb_tm e.1 (k &&& (15 ^^^ e.2)) 16 := by unfold gb_st; rw [if_neg c, hd]
          rw [es] at IH
          obtain ⟨g2, g3, g4, g5⟩ := hM.2.2 i e he
          have hi := gb_M_in hM he
          refine br_f (nI_pos (by omega)) ⟨pk_in i 32 hi, pk_in i 32 hi, ?_⟩
          rw [nI_clamp (show i < 2 ^ 31 by omega), g2, g3, gb_an k hk6 e.2 g5]
          exact gb_times g4 (gb_la hk6) (nm_r (gb_xor _ _) (nm_e IH))
  have h := key 16 (by omega) f hf hp
  rw [show nI 16 + (-1) = (15 : Int32) by decide] at h
  exact ⟨17, h⟩
theorem gb_head {post : Int32 → Prop} {f : Nat} (hf : f < 65536) (h0 : f ≠ 0) (hp : post (nI (gb_hd f 16))) : wpX_headOf post () (nI f) := by
  refine pk_loop (fun n i s => wX_headOf_4 post (nI f) n s (nI i)) (fun i s => s = nI (gb_hd f i) ∨ f % 2 ^ i = 0) 16 0 (-1) (by omega) (Or.inr (by rw [Nat.pow_zero, Nat.mod_one])) ?_ ?_
  · intro n s h
    refine pk_le 16 16 (fun _ => ?_) (fun z => absurd z (by omega))
    rcases h with h | h
    · rw [h]
      exact hp
    · exact absurd (show f = 0 by omega) h0
  · intro n i s hi h hw
    refine pk_le 16 i (fun z => absurd z (by omega)) (fun _ => ek_if (gb_b0 hf hi) (fun c => nm_r (nI_1 i) (hw _ ?_)) (fun c => nm_r (nI_1 i) (hw _ (Or.inl ?_))))
    · rcases h with h | h
      · exact Or.inl (by rw [gb_hd, if_pos c]; exact h)
      · exact Or.inr (by rw [Nat.mod_pow_succ, h, c, Nat.mul_zero])
    · rw [gb_hd, if_neg c]
theorem gb_take {post : Int32 → St2 → Prop} {pr kn sz bc bs zs : Int32} {a1 a2 a3 a4 : Nat → Int32} {L : List (Nat × Nat)} {f : Nat} (hM : gb_M L sz a2 a3) (hf : f < 65536)
    (H : ∀ (r sz' : Int32) (a2' a3' : Nat → Int32), gb_M (gb_ti L f) sz' a2' a3' → post r (pr, kn, sz', bc, bs, zs, a1, a2', a3', a4)) :
    wpX_takeIn post (pr, kn, sz, bc, bs, zs, a1, a2, a3, a4) (nI f) := by
  unfold wpX_takeIn
  dsimp only
  have hr := gb_rd_lt L 16 (by omega) f hf
  refine gb_reduce hM hf ?_
  refine pk_eq (gb_rd L 16 f) 0 (fun z => ?_) (fun z => ?_)
  · refine H _ _ _ _ ?_
    unfold gb_ti
    rw [if_pos z]
    exact hM
  · have hs := hM.1
    have hl := hM.2.1
    subst hs
    refine pk_lt L.length 32 (fun c => ?_) (fun c => H _ _ _ _ ?_)
    · rw [nI_clamp (show L.length < 2 ^ 31 by omega)]
      refine ⟨pk_in L.length 32 c, nm_e (gb_head hr z ⟨pk_in L.length 32 c, nm_e (nm_e (H _ _ _ _ ?_))⟩)⟩
      unfold gb_ti
      rw [if_neg z, if_pos c]
      exact gb_M_add hM c hr (gb_hd_lt _ 16 (by omega))
    · unfold gb_ti
      rw [if_neg z, if_neg (by omega)]
      exact hM
end
section
/-! ===== takeSquares, takeDifference, complete ===== -/
theorem gb_squares {post : St2 → Prop} {pr kn sz bc bs zs : Int32} {a1 a2 a3 a4 : Nat → Int32} {L : List (Nat × Nat)} {i : Nat} {e : Nat × Nat} (hM : gb_M L sz a2 a3) (he : L[i]? = some e)
    (H : ∀ (sz' : Int32) (a2' a3' : Nat → Int32), gb_M (gb_sq e.1 e.2 L 4) sz' a2' a3' → post (pr, kn, sz', bc, bs, zs, a1, a2', a3', a4)) :
    wpX_takeSquares post (pr, kn, sz, bc, bs, zs, a1, a2, a3, a4) (nI i) := by
  refine pk_loop (σ := Int32 × (Nat → Int32) × (Nat → Int32)) (fun n v s => wX_takeSquares_2 post (nI i) n (nI v) pr kn s.1 bc bs zs a1 s.2.1 s.2.2 a4) (fun v s => gb_M (gb_sq e.1 e.2 L v) s.1 s.2.1 s.2.2) 4 0 (sz, a2, a3) (by omega) hM ?_ ?_
  · intro n s h
    exact pk_le 4 4 (fun _ => H _ _ _ h) (fun z => absurd z (by omega))
  · rintro n v ⟨sz1, b2, b3⟩ hv h hw
    have h : gb_M (gb_sq e.1 e.2 L v) sz1 b2 b3 := h
    have he' := gb_sq_get e.1 e.2 he v
    obtain ⟨g2, g3, g4, g5⟩ := h.2.2 i e he'
    have hi := gb_M_in h he'
    show wX_takeSquares_2 post (nI i) (n + 1) (nI v) pr kn sz1 bc bs zs a1 b2 b3 a4
    refine pk_le 4 v (fun z => absurd z (by omega)) (fun _ => ⟨pk_in i 32 hi, ?_⟩)
    rw [nI_clamp (show i < 2 ^ 31 by omega), g2, g3]
    refine ek_if (gb_b0 (f := e.2) (by omega) (by omega)) (fun c => nm_r (nI_1 v) (hw (sz1, b2, b3) ?_)) (fun c => ⟨pk_in i 32 hi, ?_⟩)
    · show gb_M (gb_sq e.1 e.2 L (v + 1)) sz1 b2 b3
      rw [gb_sq, if_pos c]
      exact h
    · rw [gb_sh v (by omega)]
      refine gb_times g4 (gb_p4 v hv) ⟨pk_in i 32 hi, ?_⟩
      rw [gb_xor]
      refine gb_take h (gb_x16 (gb_tm_lt _ (gb_p4 v hv) 16 (by omega)) g4) (fun r sz' a2' a3' hM' => nm_r (nI_1 v) (hw (sz', a2', a3') ?_))
      show gb_M (gb_sq e.1 e.2 L (v + 1)) sz' a2' a3'
      rw [gb_sq, if_neg c]
      exact hM'
theorem gb_diff {post : St2 → Prop} {pr kn sz bc bs zs : Int32} {a1 a2 a3 a4 : Nat → Int32} {L : List (Nat × Nat)} {i j : Nat} {e d : Nat × Nat} (hM : gb_M L sz a2 a3) (he : L[i]? = some e) (hd : L[j]? = some d)
    (H : ∀ (sz' : Int32) (a2' a3' : Nat → Int32), gb_M (gb_ti L (gb_d1 e.1 e.2 d)) sz' a2' a3' → post (pr, kn, sz', bc, bs, zs, a1, a2', a3', a4)) :
    wpX_takeDifference post (pr, kn, sz, bc, bs, zs, a1, a2, a3, a4) (nI i) (nI j) := by
  unfold wpX_takeDifference
  dsimp only
  obtain ⟨g2, g3, g4, g5⟩ := hM.2.2 i e he
  obtain ⟨k2, k3, k4, k5⟩ := hM.2.2 j d hd
  have hi := gb_M_in hM he
  have hj := gb_M_in hM hd
  have ho := gb_or4 g5 k5
  rw [nI_clamp (show i < 2 ^ 31 by omega), nI_clamp (show j < 2 ^ 31 by omega), g2, g3, k2, k3]
  refine ⟨pk_in i 32 hi, pk_in j 32 hj, nm_r (gb_or _ _) ⟨pk_in i 32 hi, pk_in i 32 hi, ?_⟩⟩
  rw [gb_an _ ho _ g5, gb_an _ ho _ k5]
  refine gb_times g4 (gb_la ho) ⟨pk_in j 32 hj, pk_in j 32 hj, gb_times k4 (gb_la ho) ?_⟩
  rw [gb_xor]
  exact gb_take hM (gb_d1_lt g5 k5) (fun r sz' a2' a3' hM' => H sz' a2' a3' hM')
theorem gb_55 {post : St2 → Prop} {J : Int32 → Int32 → Int32 → Int32 → Int32 → Int32 → Int32 → (Nat → Int32) → (Nat → Int32) → (Nat → Int32) → (Nat → Int32) → Prop} {pr kn sz bc bs zs : Int32} {a1 a2 a3 a4 : Nat → Int32} {L : List (Nat × Nat)} {i : Nat} {e : Nat × Nat} (hM : gb_M L sz a2 a3) (he : L[i]? = some e)
    (H : ∀ (sz' : Int32) (a2' a3' : Nat → Int32), gb_M (gb_df e.1 e.2 L i) sz' a2' a3' → J (nI (i + 1)) pr kn sz' bc bs zs a1 a2' a3' a4) :
    ∃ n, wX_complete_55 post J (nI i) n 0 pr kn sz bc bs zs a1 a2 a3 a4 := by
  have hi := gb_M_in hM he
  refine pk_loop (σ := Int32 × (Nat → Int32) × (Nat → Int32)) (fun n j s => wX_complete_55 post J (nI i) n (nI j) pr kn s.1 bc bs zs a1 s.2.1 s.2.2 a4) (fun j s => gb_M (gb_df e.1 e.2 L j) s.1 s.2.1 s.2.2) i 0 (sz, a2, a3) (by omega) hM ?_ ?_
  · intro n s h
    exact pk_le i i (fun _ => nm_r (nI_1 i) (H _ _ _ h)) (fun z => absurd z (by omega))
  · rintro n j ⟨sz1, b2, b3⟩ hj h hw
    have h : gb_M (gb_df e.1 e.2 L j) sz1 b2 b3 := h
    have he' := gb_df_get e.1 e.2 he j
    have hl : j < (gb_df e.1 e.2 L j).length := Nat.lt_trans hj (List.getElem?_eq_some_iff.mp he').1
    have hd : (gb_df e.1 e.2 L j)[j]? = some (gb_df e.1 e.2 L j)[j] := List.getElem?_eq_getElem hl
    show wX_complete_55 post J (nI i) (n + 1) (nI j) pr kn sz1 bc bs zs a1 b2 b3 a4
    refine pk_le i j (fun z => absurd z (by omega)) (fun _ => gb_diff h he' hd (fun sz' a2' a3' hM' => nm_r (nI_1 j) (hw (sz', a2', a3') ?_)))
    show gb_M (gb_df e.1 e.2 L (j + 1)) sz' a2' a3'
    rw [gb_df, hd]
    exact hM'
theorem gb_40 {post : St2 → Prop} {pr kn bc bs zs : Int32} {a1 a4 : Nat → Int32} (n : Nat) : ∀ (i : Nat) (L : List (Nat × Nat)) (sz : Int32) (a2 a3 : Nat → Int32), n + i = 33 → gb_M L sz a2 a3 →
    (∀ (sz' : Int32) (a2' a3' : Nat → Int32), gb_M (gb_c4 n i L) sz' a2' a3' → post (pr, kn, sz', bc, bs, zs, a1, a2', a3', a4)) →
    wX_complete_40 post (n + 1) (nI i) pr kn sz bc bs zs a1 a2 a3 a4 := by
  induction n with
  | zero =>
    intro i L sz a2 a3 hn hM H
    have hs := hM.1
    have hl := hM.2.1
    subst hs
    exact pk_le L.length i (fun _ => H _ _ _ hM) (fun z => absurd z (by omega))
  | succ n ih =>
    intro i L sz a2 a3 hn hM H
    have hs := hM.1
    have hl := hM.2.1
    subst hs
    cases he : L[i]? with
    | none =>
      rw [gb_c4, he] at H
      have := List.getElem?_eq_none_iff.mp he
      exact pk_le L.length i (fun _ => H _ _ _ hM) (fun z => absurd z (by omega))
    | some e =>
      rw [gb_c4, he] at H
      have := (List.getElem?_eq_some_iff.mp he).1
      refine pk_le L.length i (fun z => absurd z (by omega)) (fun _ => gb_squares hM he (fun sz1 b2 b3 h1 => ?_))
      exact gb_55 h1 (gb_sq_get e.1 e.2 he 4) (fun sz2 c2 c3 h2 => ih (i + 1) _ _ _ _ (by omega) h2 H)
theorem gb_complete {post : St2 → Prop} {pr kn sz bc bs zs : Int32} {a1 a2 a3 a4 : Nat → Int32} {g : Nat → Nat} {s : Nat} (hs : s < 64) (hg : ∀ i, i < 6 → a1 i = nI (g i) ∧ g i < 65536)
    (H : ∀ (sz' : Int32) (a2' a3' : Nat → Int32), gb_M (gb_cp g s) sz' a2' a3' → post (pr, kn, sz', bc, bs, zs, a1, a2', a3', a4)) :
    wpX_complete post (pr, kn, sz, bc, bs, zs, a1, a2, a3, a4) (nI s) := by
  refine pk_loop (σ := Int32 × (Nat → Int32) × (Nat → Int32)) (fun n i t => wX_complete_7 post (nI s) n (nI i) pr kn t.1 bc bs zs a1 t.2.1 t.2.2 a4) (fun i t => gb_M (gb_c7 g s i) t.1 t.2.1 t.2.2) 6 0 (0, a2, a3) (by omega) (gb_M_0 a2 a3) ?_ ?_
  · intro n t h
    exact pk_le 6 6 (fun _ => ⟨34, gb_40 33 0 _ _ _ _ (by omega) h H⟩) (fun z => absurd z (by omega))
  · rintro n i ⟨sz1, b2, b3⟩ hi h hw
    have h : gb_M (gb_c7 g s i) sz1 b2 b3 := h
    show wX_complete_7 post (nI s) (n + 1) (nI i) pr kn sz1 bc bs zs a1 b2 b3 a4
    refine pk_le 6 i (fun z => absurd z (by omega)) (fun _ => ek_if (gb_b0 (by omega) (by omega)) (fun c => nm_r (nI_1 i) (hw (sz1, b2, b3) ?_)) (fun c => ⟨pk_in i 6 hi, ?_⟩))
    · show gb_M (gb_c7 g s (i + 1)) sz1 b2 b3
      rw [gb_c7, if_pos c]
      exact h
    · rw [nI_clamp (show i < 2 ^ 31 by omega), (hg i hi).1]
      refine gb_take h (hg i hi).2 (fun r sz' a2' a3' hM' => nm_r (nI_1 i) (hw (sz', a2', a3') ?_))
      show gb_M (gb_c7 g s (i + 1)) sz' a2' a3'
      rw [gb_c7, if_neg c]
      exact hM'
end
section
/-! ===== valueAt, vanishes, leastBound, learn ===== -/
def gb_N (B : List Nat) (bc : Int32) (a4 : Nat → Int32) : Prop :=
  bc = nI B.length ∧ B.length ≤ 16 ∧ ∀ i b, B[i]? = some b → a4 i = nI b ∧ b < 65536
theorem gb_N_0 (a4 : Nat → Int32) : gb_N [] 0 a4 := by
  refine ⟨rfl, by decide, fun i e h => ?_⟩
  rw [List.getElem?_nil] at h
  exact absurd h.symm (Option.some_ne_none e)
theorem gb_N_add {B : List Nat} {bc : Int32} {a4 : Nat → Int32} (hN : gb_N B bc a4) (hl : B.length < 16) {b : Nat} (hb : b < 65536) :
    gb_N (B ++ [b]) (nI (B.length + 1)) (upd a4 B.length (nI b)) := by
  have el : (B ++ [b]).length = B.length + 1 := by rw [List.length_append]; rfl
  refine ⟨by rw [el], by omega, fun i e he => ?_⟩
  by_cases c : i < B.length
  · rw [List.getElem?_append_left c] at he
    rw [pk_un (by omega)]
    exact hN.2.2 i e he
  · have hi := (List.getElem?_eq_some_iff.mp he).1
    have ei : i = B.length := by omega
    subst ei
    rw [List.getElem?_append_right (Nat.le_refl _), Nat.sub_self] at he
    have ee : b = e := Option.some.inj he
    subst ee
    rw [pk_us]
    exact ⟨rfl, hb⟩
theorem gb_an0 {h m : Nat} (hh : h < 16) (hm : m < 16) : (nI h &&& (nI m ^^^ (-1))) = 0 ↔ h &&& (15 ^^^ m) = 0 := by
  rw [gb_an h hh m hm]
  exact gb_z (Nat.lt_trans (gb_la hh) (by omega))
theorem gb_va_lt (f p k : Nat) : gb_va f p k < 2 := by
  induction k with
  | zero => show 0 < 2; decide
  | succ k ih =>
    rw [gb_va]
    split
    · exact Nat.xor_lt_two_pow (n := 1) ih (Nat.mod_lt _ (by decide))
    · exact ih
theorem gb_zs_lt (B : List Nat) (k : Nat) (hk : k ≤ 16) : gb_zs B k < 65536 := by
  induction k with
  | zero => show 0 < 65536; decide
  | succ k ih =>
    refine gb_o16 (ih (by omega)) ?_
    unfold gb_z1
    split
    · exact gb_p16 k (by omega)
    · decide
theorem gb_bd_lt (L : List (Nat × Nat)) (k : Nat) (hk : k ≤ 16) : gb_bd L k < 65536 := by
  induction k with
  | zero => show 0 < 65536; decide
  | succ k ih =>
    refine gb_o16 (ih (by omega)) ?_
    unfold gb_bo
    split
    · decide
    · exact gb_p16 k (by omega)
theorem gb_ba_len (L : List (Nat × Nat)) (k : Nat) : (gb_ba L k).length ≤ k := by
  induction k with
  | zero => exact Nat.le_refl 0
  | succ k ih =>
    rw [gb_ba]
    split
    · rw [List.length_append]
      show (gb_ba L k).length + 1 ≤ k + 1
      omega
    · omega
theorem gb_value {post : Int32 → Prop} {f p : Nat} (hf : f < 65536) (hp : p < 16) (H : post (nI (gb_va f p 16))) : wpX_valueAt post () (nI f) (nI p) := by
  refine pk_loop (fun n i s => wX_valueAt_4 post (nI f) (nI p) n s (nI i)) (fun i s => s = nI (gb_va f p i)) 16 0 0 (by omega) rfl ?_ ?_
  · intro n s h
    refine pk_le 16 16 (fun _ => ?_) (fun z => absurd z (by omega))
    rw [h]
    exact H
  · intro n i s hi h hw
    refine pk_le 16 i (fun z => absurd z (by omega)) (fun _ => ek_if (gb_an0 hi hp) (fun c => nm_e (nm_r (nI_1 i) (hw _ ?_))) (fun c => nm_r (nI_1 i) (hw _ ?_)))
    · rw [gb_va, if_pos c, h, gb_bit hf hi, gb_xor]
    · rw [gb_va, if_neg c]
      exact h
theorem gb_vanish {post : Int32 → Prop} {pr kn sz bc bs zs : Int32} {a1 a2 a3 a4 : Nat → Int32} {B : List Nat} {p : Nat} (hN : gb_N B bc a4) (hp : p < 16)
    (ht : gb_vn p B = true → post 1) (hf : gb_vn p B = false → post 0) :
    wpX_vanishes post (pr, kn, sz, bc, bs, zs, a1, a2, a3, a4) (nI p) := by
  obtain ⟨hs, hl, hg⟩ := hN
  subst hs
  have key : ∀ d i, i + d = B.length → gb_vn p (B.drop i) = gb_vn p B → wX_vanishes_2 post (nI p) pr kn sz (nI B.length) bs zs a1 a2 a3 a4 (d + 1) (nI i) := by
    intro d
    induction d with
    | zero =>
      intro i hi he
      refine pk_le B.length i (fun _ => ht ?_) (fun z => absurd z (by omega))
      rw [← he, List.drop_eq_nil_of_le (by omega)]
      rfl
    | succ d ih =>
      intro i hi he
      have hil : i < B.length := by omega
      have e1 : B[i]? = some B[i] := List.getElem?_eq_getElem hil
      obtain ⟨g2, g3⟩ := hg i B[i] e1
      rw [List.drop_eq_getElem_cons hil] at he
      refine pk_le B.length i (fun z => absurd z (by omega)) (fun _ => ⟨pk_in i 16 (by omega), ?_⟩)
      rw [nI_clamp (show i < 2 ^ 31 by omega), g2]
      have hv := gb_va_lt B[i] p 16
      refine gb_value g3 hp (pk_eq (gb_va B[i] p 16) 0 (fun c => nm_r (nI_1 i) (ih (i + 1) (by omega) ?_)) (fun c => hf ?_))
      · rw [← he, gb_vn, if_pos c]
      · rw [← he, gb_vn, if_neg c]
  exact ⟨B.length + 1, key B.length 0 (by omega) rfl⟩
theorem gb_least {post : Int32 → Prop} {pr kn sz bc bs zs : Int32} {a1 a2 a3 a4 : Nat → Int32} {L : List (Nat × Nat)} {m : Nat} (hM : gb_M L sz a2 a3) (hm : m < 16)
    (ht : gb_ls L m = true → post 1) (hf : gb_ls L m = false → post 0) :
    wpX_leastBound post (pr, kn, sz, bc, bs, zs, a1, a2, a3, a4) (nI m) := by
  have key : ∀ n v, n + v = 4 → (gb_lb L m n v = true → post 1) → (gb_lb L m n v = false → post 0) → wX_leastBound_12 post (nI m) pr kn sz bc bs zs a1 a2 a3 a4 (n + 1) (nI v) := by
    intro n
    induction n with
    | zero =>
      intro v hn ht hf
      exact pk_le 4 v (fun _ => ht rfl) (fun z => absurd z (by omega))
    | succ n ih =>
      intro v hn ht hf
      have hla : m &&& (15 ^^^ 2 ^ v) < 16 := gb_la hm
      refine pk_le 4 v (fun z => absurd z (by omega)) (fun _ => nm_r (gb_lsn m hm v (by omega)) ?_)
      refine pk_eq (m &&& (15 ^^^ 2 ^ v)) m (fun c => ?_) (fun c => ?_)
      · have e1 : gb_lb L m (n + 1) v = gb_lb L m n (v + 1) := by rw [gb_lb, if_pos c]
        rw [e1] at ht hf
        exact nm_r (nI_1 v) (ih (v + 1) (by omega) ht hf)
      · refine gb_divisor hM hla (fun hd => ?_) (fun i e he hd => ?_)
        · have e1 : gb_lb L m (n + 1) v = gb_lb L m n (v + 1) := by rw [gb_lb, if_neg c, hd]
          rw [e1] at ht hf
          exact br_t (by decide) (nm_r (nI_1 v) (ih (v + 1) (by omega) ht hf))
        · have hi := gb_M_in hM he
          exact br_f (nI_pos (by omega)) (hf (by rw [gb_lb, if_neg c, hd]))
  unfold wpX_leastBound
  dsimp only
  refine gb_divisor hM hm (fun hd => br_f (by decide) (hf (by unfold gb_ls; rw [hd]))) (fun i e he hd => ?_)
  have hi := gb_M_in hM he
  have e1 : gb_ls L m = gb_lb L m 4 0 := by unfold gb_ls; rw [hd]
  rw [e1] at ht hf
  exact br_t (nI_pos' (by omega)) ⟨5, key 4 0 rfl ht hf⟩
theorem gb_114 {post : St2 → Prop} {pr kn sz bc bs : Int32} {a1 a2 a3 a4 : Nat → Int32} {B : List Nat} (hN : gb_N B bc a4)
    (H : post (pr, kn, sz, bc, bs, nI (gb_zs B 16), a1, a2, a3, a4)) : ∃ n, wX_learn_114 post pr kn sz bc bs a1 a2 a3 a4 n 0 0 := by
  refine pk_loop (fun n i s => wX_learn_114 post pr kn sz bc bs a1 a2 a3 a4 n (nI i) s) (fun i s => s = nI (gb_zs B i)) 16 0 0 (by omega) rfl ?_ ?_
  · intro n s h
    refine pk_le 16 16 (fun _ => ?_) (fun z => absurd z (by omega))
    rw [h]
    exact H
  · intro n i s hi h hw
    refine pk_le 16 i (fun z => absurd z (by omega)) (fun _ => gb_vanish hN hi (fun t => br_f (by decide) (nm_e (nm_r (nI_1 i) (hw _ ?_)))) (fun t => br_t rfl (nm_e (nm_r (nI_1 i) (hw _ ?_)))))
    · rw [h, gb_sh i hi, gb_or, gb_zs]
      unfold gb_z1
      rw [t]
    · rw [h, gb_zs]
      unfold gb_z1
      rw [t]
      exact gb_or _ 0
theorem gb_33 {post : St2 → Prop} {pr kn sz zs : Int32} {a1 a2 a3 a4 : Nat → Int32} {L : List (Nat × Nat)} (hM : gb_M L sz a2 a3)
    (H : ∀ (a4' : Nat → Int32), gb_N (gb_ba L 16) (nI (gb_ba L 16).length) a4' → post (pr, kn, sz, nI (gb_ba L 16).length, nI (gb_bd L 16), nI (gb_zs (gb_ba L 16) 16), a1, a2, a3, a4')) :
    ∃ n, wX_learn_33 post pr kn sz zs n 0 0 0 a1 a2 a3 a4 := by
  refine pk_loop (σ := Int32 × Int32 × (Nat → Int32)) (fun n i s => wX_learn_33 post pr kn sz zs n (nI i) s.1 s.2.1 a1 a2 a3 s.2.2) (fun i s => s.2.1 = nI (gb_bd L i) ∧ gb_N (gb_ba L i) s.1 s.2.2) 16 0 (0, 0, a4) (by omega) ⟨rfl, gb_N_0 a4⟩ ?_ ?_
  · rintro n ⟨bc, bs, c4⟩ ⟨h1, h2⟩
    have h1 : bs = nI (gb_bd L 16) := h1
    have h2 : gb_N (gb_ba L 16) bc c4 := h2
    have hs := h2.1
    subst h1
    subst hs
    show wX_learn_33 post pr kn sz zs (n + 1) (nI 16) (nI (gb_ba L 16).length) (nI (gb_bd L 16)) a1 a2 a3 c4
    exact pk_le 16 16 (fun _ => gb_114 h2 (H c4 h2)) (fun z => absurd z (by omega))
  · rintro n i ⟨bc, bs, c4⟩ hi ⟨h1, h2⟩ hw
    have h1 : bs = nI (gb_bd L i) := h1
    have h2 : gb_N (gb_ba L i) bc c4 := h2
    have hs := h2.1
    subst h1
    subst hs
    have hlen := gb_ba_len L i
    have k59 : ∀ z0, nI (gb_bd L i) ||| z0 = nI (gb_bd L (i + 1)) → wX_learn_59 post (wX_learn_33 post pr kn sz zs n) (nI i) z0 (nI (gb_bd L i)) pr kn sz (nI (gb_ba L i).length) (nI (gb_bd L i)) zs a1 a2 a3 c4 := by
      intro z0 hz
      refine nm_r hz (gb_least hM hi (fun t => br_f (by decide) ?_) (fun t => br_t rfl (nm_r (nI_1 i) (hw (nI (gb_ba L i).length, nI (gb_bd L (i + 1)), c4) ⟨rfl, ?_⟩))))
      · rw [gb_sh i hi]
        refine gb_reduce hM (gb_p16 i hi) ⟨pk_in (gb_ba L i).length 16 (by omega), ?_⟩
        rw [nI_clamp (show (gb_ba L i).length < 2 ^ 31 by omega), gb_xor]
        refine nm_e (nm_r (nI_1 _) (nm_r (nI_1 i) (hw (nI ((gb_ba L i).length + 1), nI (gb_bd L (i + 1)), upd c4 (gb_ba L i).length (nI (2 ^ i ^^^ gb_rd L 16 (2 ^ i)))) ⟨rfl, ?_⟩)))
        show gb_N (gb_ba L (i + 1)) (nI ((gb_ba L i).length + 1)) (upd c4 (gb_ba L i).length (nI (2 ^ i ^^^ gb_rd L 16 (2 ^ i))))
        rw [gb_ba, t]
        exact gb_N_add h2 (by omega) (gb_x16 (gb_p16 i hi) (gb_rd_lt L 16 (by omega) _ (gb_p16 i hi)))
      · show gb_N (gb_ba L (i + 1)) (nI (gb_ba L i).length) c4
        rw [gb_ba, t]
        exact h2
    show wX_learn_33 post pr kn sz zs (n + 1) (nI i) (nI (gb_ba L i).length) (nI (gb_bd L i)) a1 a2 a3 c4
    refine pk_le 16 i (fun z => absurd z (by omega)) (fun _ => gb_divisor hM hi (fun hd => br_t (by decide) (k59 0 ?_)) (fun j e he hd => ?_))
    · rw [gb_bd]
      unfold gb_bo
      rw [hd]
      exact gb_or _ 0
    · have hj := gb_M_in hM he
      refine br_f (nI_pos (by omega)) (k59 _ ?_)
      rw [gb_sh i hi, gb_or, gb_bd]
      unfold gb_bo
      rw [hd]
theorem gb_learn {post : St2 → Prop} {sz bc bs zs : Int32} {a1 a2 a3 a4 : Nat → Int32} {g : Nat → Nat} {s : Nat} (hs : s < 64) (hg : ∀ i, i < 6 → a1 i = nI (g i) ∧ g i < 65536)
    (H : ∀ (sz' : Int32) (a2' a3' a4' : Nat → Int32), gb_M (gb_cp g s) sz' a2' a3' → gb_N (gb_ba (gb_cp g s) 16) (nI (gb_ba (gb_cp g s) 16).length) a4' →
      post (nI s, 1, sz', nI (gb_ba (gb_cp g s) 16).length, nI (gb_bd (gb_cp g s) 16), nI (gb_zs (gb_ba (gb_cp g s) 16) 16), a1, a2', a3', a4')) :
    wpX_learn post (nI s, 0, sz, bc, bs, zs, a1, a2, a3, a4) := by
  unfold wpX_learn
  dsimp only
  exact br_t rfl (gb_complete hs hg (fun sz' a2' a3' hM' => gb_33 hM' (fun a4' hN => H _ _ _ _ hM' hN)))
theorem gb_learned {post : St2 → Prop} {pr sz bc bs zs : Int32} {a1 a2 a3 a4 : Nat → Int32} (H : post (pr, 1, sz, bc, bs, zs, a1, a2, a3, a4)) : wpX_learn post (pr, 1, sz, bc, bs, zs, a1, a2, a3, a4) := by
  unfold wpX_learn
  dsimp only
  exact br_f (by decide) H
end
section
/-! ===== the answers ===== -/
theorem gb_poly {post : Int32 → Prop} {f : Nat} (hf : f < 65536) (H : post 1) : wpX_isPolynomial post () (nI f) := by
  unfold wpX_isPolynomial
  exact br_f (nI_pos (by omega)) (pk_lt 65535 f (fun z => absurd z (by omega)) (fun _ => H))
theorem gb_add0 {post : Int32 → St2 → Prop} {kn sz bc bs zs : Int32} {a1 a2 a3 a4 : Nat → Int32} {f : Nat} (hf : f < 65536)
    (H : post 0 (1, 0, sz, bc, bs, zs, upd a1 0 (nI f), a2, a3, a4)) : wpX_add post (0, kn, sz, bc, bs, zs, a1, a2, a3, a4) (nI f) := by
  unfold wpX_add
  dsimp only
  refine gb_poly hf (br_f (by decide) ⟨1, br_f (by decide) ?_⟩)
  unfold wpX_has
  dsimp only
  refine br_f (by decide) (br_f (by decide) (br_t (by decide) (br_t rfl (nm_r (e' := 1) (by decide) ⟨pk_in 0 6 (by omega), ?_⟩))))
  rw [sb_cl0]
  exact nm_e H
theorem gb_cl1 : (1 : Int32).toNatClampNeg = 1 := by decide
theorem gb_add1 {post : Int32 → St2 → Prop} {kn sz bc bs zs : Int32} {a1 a2 a3 a4 : Nat → Int32} {f : Nat} (hf : f < 65536)
    (H : post 1 (nI 3, 0, sz, bc, bs, zs, upd a1 1 (nI f), a2, a3, a4)) : wpX_add post (1, kn, sz, bc, bs, zs, a1, a2, a3, a4) (nI f) := by
  unfold wpX_add
  dsimp only
  refine gb_poly hf (br_f (by decide) ⟨2, br_f (by decide) ?_⟩)
  unfold wpX_has
  dsimp only
  refine br_f (by decide) (br_f (by decide) (br_f (by decide) (br_f (by decide) (nm_r (e' := 1) (by decide) (br_f (by decide) ?_)))))
  unfold wpX_has
  dsimp only
  refine br_f (by decide) (br_f (by decide) (br_t (by decide) (br_t rfl (nm_r (e' := nI 3) (by decide) ⟨pk_in 1 6 (by omega), ?_⟩))))
  rw [gb_cl1]
  exact nm_e H
theorem gb_gens {f g : Nat} (hf : f < 65536) (hg : g < 65536) : ∀ i, i < 6 → (upd (upd (fun _ => 0) 0 (nI f)) 1 (nI g)) i = nI (gb_gn f g i) ∧ gb_gn f g i < 65536 := by
  intro i hi
  match i with
  | 0 => exact ⟨by rw [pk_un (by omega), pk_us]; rfl, hf⟩
  | 1 => exact ⟨by rw [pk_us]; rfl, hg⟩
  | k + 2 => exact ⟨by rw [pk_un (by omega), pk_un (by omega)]; rfl, by show 0 < 65536; decide⟩
theorem gb_zcount {post : Int32 → St2 → Prop} {pr kn sz bc bs : Int32} {a1 a2 a3 a4 : Nat → Int32} {z : Nat} (hz : z < 65536)
    (H : post (nI (gb_zc z 16)) (pr, kn, sz, bc, bs, nI z, a1, a2, a3, a4)) : ∃ n, wX_zeroCount_8 post pr kn sz bc bs (nI z) a1 a2 a3 a4 n 0 0 := by
  refine pk_loop (fun n i s => wX_zeroCount_8 post pr kn sz bc bs (nI z) a1 a2 a3 a4 n s (nI i)) (fun i s => s = nI (gb_zc z i)) 16 0 0 (by omega) rfl ?_ ?_
  · intro n s h
    refine pk_le 16 16 (fun _ => ?_) (fun z => absurd z (by omega))
    rw [h]
    exact H
  · intro n i s hi h hw
    refine pk_le 16 i (fun z => absurd z (by omega)) (fun _ => nm_e (nm_r (nI_1 i) (hw _ ?_)))
    rw [h, gb_bit hz hi, nI_add, gb_zc]
theorem gb_zeroCount {post : Int32 → St2 → Prop} {sz bc bs zs : Int32} {a1 a2 a3 a4 : Nat → Int32} {g : Nat → Nat} {s : Nat} (hs : s < 64) (hg : ∀ i, i < 6 → a1 i = nI (g i) ∧ g i < 65536)
    (H : ∀ (sz' : Int32) (a2' a3' a4' : Nat → Int32), gb_M (gb_cp g s) sz' a2' a3' →
      post (nI (gb_zc (gb_zs (gb_ba (gb_cp g s) 16) 16) 16)) (nI s, 1, sz', nI (gb_ba (gb_cp g s) 16).length, nI (gb_bd (gb_cp g s) 16), nI (gb_zs (gb_ba (gb_cp g s) 16) 16), a1, a2', a3', a4')) :
    wpX_zeroCount post (nI s, 0, sz, bc, bs, zs, a1, a2, a3, a4) := by
  unfold wpX_zeroCount
  dsimp only
  exact gb_learn hs hg (fun sz' a2' a3' a4' hM hN => gb_zcount (gb_zs_lt _ 16 (by omega)) (H sz' a2' a3' a4' hM))
theorem gb_values {post : Int32 → St2 → Prop} {pr sz bc bs : Int32} {a1 a2 a3 a4 : Nat → Int32} {z v : Nat} (hz : z < 65536) (hv : v < 4)
    (H : post (nI (gb_vs z v 16)) (pr, 1, sz, bc, bs, nI z, a1, a2, a3, a4)) : wpX_values post (pr, 1, sz, bc, bs, nI z, a1, a2, a3, a4) (nI v) := by
  unfold wpX_values
  dsimp only
  refine br_f (nI_pos (by omega)) (pk_le v 3 (fun _ => gb_learned ?_) (fun z => absurd z (by omega)))
  refine pk_loop (fun n i s => wX_values_19 post (nI v) pr 1 sz bc bs (nI z) a1 a2 a3 a4 n s (nI i)) (fun i s => s = nI (gb_vs z v i)) 16 0 0 (by omega) rfl ?_ ?_
  · intro n s h
    refine pk_le 16 16 (fun _ => ?_) (fun z => absurd z (by omega))
    rw [h]
    exact H
  · intro n i s hi h hw
    refine pk_le 16 i (fun z => absurd z (by omega)) (fun _ => ek_if (gb_b0 hz hi) (fun c => nm_r (nI_1 i) (hw _ ?_)) (fun c => nm_e (nm_r (nI_1 i) (hw _ ?_))))
    · rw [gb_vs, if_pos c]
      exact h
    · have hb : i / 2 ^ v % 2 < 2 := Nat.mod_lt _ (by decide)
      rw [gb_vs, if_neg c, h, gb_bit (by omega) (by omega), gb_sh _ (by omega), gb_or]
theorem gb_size {post : Int32 → St2 → Prop} {pr sz bc bs zs : Int32} {a1 a2 a3 a4 : Nat → Int32}
    (H : post bc (pr, 1, sz, bc, bs, zs, a1, a2, a3, a4)) : wpX_basisSize post (pr, 1, sz, bc, bs, zs, a1, a2, a3, a4) := by
  unfold wpX_basisSize
  dsimp only
  exact gb_learned H
theorem gb_bound {post : Int32 → St2 → Prop} {pr sz bc bs zs : Int32} {a1 a2 a3 a4 : Nat → Int32}
    (H : post bs (pr, 1, sz, bc, bs, zs, a1, a2, a3, a4)) : wpX_bound post (pr, 1, sz, bc, bs, zs, a1, a2, a3, a4) := by
  unfold wpX_bound
  dsimp only
  exact gb_learned H
theorem gb_rest {post : Int32 → St2 → Prop} {pr sz bc bs zs : Int32} {a1 a2 a3 a4 : Nat → Int32} {L : List (Nat × Nat)} {f : Nat} (hM : gb_M L sz a2 a3) (hf : f < 65536)
    (H : post (nI (gb_rd L 16 f)) (pr, 1, sz, bc, bs, zs, a1, a2, a3, a4)) : wpX_rest post (pr, 1, sz, bc, bs, zs, a1, a2, a3, a4) (nI f) := by
  unfold wpX_rest
  dsimp only
  exact gb_poly hf (br_f (by decide) (gb_learned (gb_reduce hM hf H)))
theorem gb_redundant {post : Int32 → St2 → Prop} {kn sz bc bs zs : Int32} {a1 a2 a3 a4 : Nat → Int32} {g : Nat → Nat} (hg : ∀ i, i < 6 → a1 i = nI (g i) ∧ g i < 65536)
    (H1 : gb_rd (gb_cp g 1) 16 (g 1) = 0 → ∀ (sz' : Int32) (a2' a3' : Nat → Int32), post 1 (nI 3, 0, sz', bc, bs, zs, a1, a2', a3', a4))
    (H0 : gb_rd (gb_cp g 1) 16 (g 1) ≠ 0 → ∀ (sz' : Int32) (a2' a3' : Nat → Int32), post 0 (nI 3, 0, sz', bc, bs, zs, a1, a2', a3', a4)) :
    wpX_redundant post (nI 3, kn, sz, bc, bs, zs, a1, a2, a3, a4) 1 := by
  unfold wpX_redundant
  dsimp only
  unfold wpX_has
  dsimp only
  refine br_f (by decide) (br_f (by decide) (br_f (by decide) (br_f (by decide) ?_)))
  rw [show nI 3 &&& (((1 : Int32) <<< ((1 : Int32) &&& 31)) ^^^ (-1)) = nI 1 by decide]
  refine gb_complete (by omega) hg (fun sz' a2' a3' hM => ⟨pk_in 1 6 (by omega), ?_⟩)
  dsimp only
  rw [gb_cl1, (hg 1 (by omega)).1]
  have hr := gb_rd_lt (gb_cp g 1) 16 (by omega) (g 1) (hg 1 (by omega)).2
  exact gb_reduce hM (hg 1 (by omega)).2 (pk_eq (gb_rd (gb_cp g 1) 16 (g 1)) 0 (fun c => H1 c _ _ _) (fun c => H0 c _ _ _))
theorem gb_53 {post : Int32 → St2 → Prop} {pr kn sz bc bs zs : Int32} {a1 a2 a3 a4 : Nat → Int32} {q s : Nat} (hq : q < 16) (hs : s < 65536) (hr : gb_rl q s 16 0 = true)
    (H : post 1 (pr, kn, sz, bc, bs, zs, a1, a2, a3, a4)) : ∃ n, wX_relates_53 post (nI q) (nI s) pr kn sz bc bs zs a1 a2 a3 a4 n 0 := by
  have key : ∀ n i, n + i = 16 → gb_rl q s n i = true → wX_relates_53 post (nI q) (nI s) pr kn sz bc bs zs a1 a2 a3 a4 (n + 1) (nI i) := by
    intro n
    induction n with
    | zero =>
      intro i hn hr
      exact absurd hr (by rw [gb_rl]; decide)
    | succ n ih =>
      intro i hn hr
      have hi : i < 16 := by omega
      refine pk_le 16 i (fun z => absurd z (by omega)) (fun _ => ek_if (gb_an0 hi hq) (fun c => ek_if (gb_b0 hs hi) (fun d => H) (fun d => nm_r (nI_1 i) (ih (i + 1) (by omega) ?_))) (fun c => nm_r (nI_1 i) (ih (i + 1) (by omega) ?_)))
      · rw [gb_rl, if_pos c, if_neg d] at hr
        exact hr
      · rw [gb_rl, if_neg c] at hr
        exact hr
  exact ⟨17, key 16 0 rfl hr⟩
theorem gb_sn_lt (z : Nat) {q : Nat} (k : Nat) (hk : k ≤ 16) : gb_sn z q k < 65536 := by
  induction k with
  | zero => show 0 < 65536; decide
  | succ k ih =>
    rw [gb_sn]
    split
    · exact ih (by omega)
    · exact gb_o16 (ih (by omega)) (gb_p16 _ (gb_la (by omega)))
theorem gb_relates {post : Int32 → St2 → Prop} {sz bc bs zs : Int32} {a1 a2 a3 a4 : Nat → Int32} {g : Nat → Nat} {s q : Nat} (hs : s < 64) (hg : ∀ i, i < 6 → a1 i = nI (g i) ∧ g i < 65536) (hq : q < 16)
    (hr : gb_rl q (gb_sn (gb_zs (gb_ba (gb_cp g s) 16) 16) q 16) 16 0 = true)
    (H : ∀ (sz' : Int32) (a2' a3' a4' : Nat → Int32),
      post 1 (nI s, 1, sz', nI (gb_ba (gb_cp g s) 16).length, nI (gb_bd (gb_cp g s) 16), nI (gb_zs (gb_ba (gb_cp g s) 16) 16), a1, a2', a3', a4')) :
    wpX_relates post (nI s, 0, sz, bc, bs, zs, a1, a2, a3, a4) (nI q) := by
  unfold wpX_relates
  dsimp only
  refine br_f (nI_pos (by omega)) (pk_lt q 16 (fun _ => gb_learn hs hg (fun sz' a2' a3' a4' hM hN => ?_)) (fun z => absurd z (by omega)))
  have hz := gb_zs_lt (gb_ba (gb_cp g s) 16) 16 (by omega)
  refine pk_loop (fun n i t => wX_relates_20 post (nI q) (nI s) 1 sz' (nI (gb_ba (gb_cp g s) 16).length) (nI (gb_bd (gb_cp g s) 16)) (nI (gb_zs (gb_ba (gb_cp g s) 16) 16)) a1 a2' a3' a4' n t (nI i)) (fun i t => t = nI (gb_sn (gb_zs (gb_ba (gb_cp g s) 16) 16) q i)) 16 0 0 (by omega) rfl ?_ ?_
  · intro n t h
    refine pk_le 16 16 (fun _ => ?_) (fun z => absurd z (by omega))
    rw [h]
    exact gb_53 hq (gb_sn_lt _ 16 (by omega)) hr (H sz' a2' a3' a4')
  · intro n i t hi h hw
    refine pk_le 16 i (fun z => absurd z (by omega)) (fun _ => ek_if (gb_b0 hz hi) (fun c => nm_r (nI_1 i) (hw _ ?_)) (fun c => nm_e (nm_r (nI_1 i) (hw _ ?_))))
    · rw [gb_sn, if_pos c]
      exact h
    · rw [gb_sn, if_neg c, h, gb_and4 i hi q hq, gb_sh _ (gb_la hi), gb_or]
end
section
/-! ===== the law ===== -/
theorem gb_e1 {post : Int32 → St0 → Prop} {mc ms kc ks : Nat} {x6 x7 x8 x9 x10 x11 x14 x15 x17 : Int32} (h8 : x8 = 4) (h9 : x9 = (1 : Int32) <<< (x6 &&& 31)) (h10 : x10 = 2) (h11 : x11 = x6 &&& x7) (h14 : x14 = 0) (h15 : ¬ x15 = 0) (h17 : x17 = 0) (hp : post 1 ()) :
    wL_lawOf_164 post mc ms x6 x7 x8 x9 x10 x11 0 0 x14 x15 x17 kc ks :=
  br_t rfl (br_t rfl (br_t h8 (br_t rfl (br_t h9 (br_t rfl (br_t rfl (br_t h10 (br_t rfl (br_t h11 (br_t rfl (br_t h14 (br_f h15 (br_t h17 hp)))))))))))))
theorem gb_e2 {post : Int32 → St0 → Prop} {mc ms kc ks : Nat} {x6 x7 x8 x9 x10 x11 x14 x15 x17 : Int32} (h67 : x6 = x7) (h8 : x8 = 8) (h9 : x9 = (1 : Int32) <<< (x6 &&& 31)) (h10 : x10 = 1) (h11 : x11 = x6 &&& x7) (h14 : x14 = 1) (h15 : ¬ x15 = 0) (h17 : x17 = 0) (hp : post 1 ()) :
    wL_lawOf_164 post mc ms x6 x7 x8 x9 x10 x11 1 0 x14 x15 x17 kc ks :=
  br_t rfl (br_f (by decide) (br_t h8 (br_t rfl (br_t h9 (br_t rfl (br_f (by decide) (br_t h10 (br_t rfl (br_t h11 (br_f (by decide) (br_t h67 (br_t h14 (br_f h15 (br_t h17 hp))))))))))))))
theorem gb_e3 {post : Int32 → St0 → Prop} {mc ms kc ks : Nat} {x6 x7 x8 x9 x10 x11 x14 x15 x17 : Int32} (h67 : ¬ x6 = x7) (h8 : x8 = 0) (h9 : x9 = 0) (h10 : x10 = 1) (h11 : x11 = 0) (h14 : x14 = 0) (h15 : ¬ x15 = 0) (h17 : x17 = 1) (hp : post 1 ()) :
    wL_lawOf_164 post mc ms x6 x7 x8 x9 x10 x11 1 1 x14 x15 x17 kc ks :=
  br_f (by decide) (br_t h8 (br_f (by decide) (br_t h9 (br_f (by decide) (br_t h10 (br_f (by decide) (br_t h11 (br_f (by decide) (br_f h67 (br_t h14 (br_f h15 (br_t h17 hp))))))))))))
theorem gb_gen : ∀ v, v < 4 → ∀ a, a < 2 → ((1 : Int32) <<< (((1 : Int32) <<< (nI v &&& 31)) &&& 31)) ||| nI a = nI (2 ^ 2 ^ v ||| a) := by decide +kernel
theorem gb_gen_lt : ∀ v, v < 4 → ∀ a, a < 2 → 2 ^ 2 ^ v ||| a < 65536 := by decide +kernel
theorem gb_pr : ∀ v, v < 4 → ∀ w, w < 4 → (1 : Int32) <<< ((((1 : Int32) <<< (nI v &&& 31)) ||| ((1 : Int32) <<< (nI w &&& 31))) &&& 31) = nI (2 ^ (2 ^ v ||| 2 ^ w)) := by decide +kernel
theorem gb_pr_lt : ∀ v, v < 4 → ∀ w, w < 4 → 2 ^ (2 ^ v ||| 2 ^ w) < 65536 := by decide +kernel
theorem gb_par {A B : Prop} {n : Nat} (hn : n < 65536) (f : n % 2 = 1 → A) (g : ¬ n % 2 = 1 → B) : ((nI n &&& 1) = 1 → A) ∧ (¬ (nI n &&& 1) = 1 → B) := by
  have e1 : nI n &&& 1 = nI (n % 2) := pk_andN (by omega) 1 (by decide)
  rw [e1]
  exact pk_eq (n % 2) 1 f g
/-- the second half: from the state that the first four questions leave -/
theorem gb_126 {post : Int32 → St0 → Prop} {mc ms kc ks v a b f g : Nat} {x8 x9 x10 x11 x12 z0 kn sz bc bs zs : Int32} {a1 a2 a3 a4 : Nat → Int32} (hv : v < 4)
    (hg : ∀ i, i < 6 → a1 i = nI (gb_gn f g i) ∧ gb_gn f g i < 65536)
    (hr : gb_rl (2 ^ v) (gb_sn (gb_zs (gb_ba (gb_cp (gb_gn f g) 3) 16) 16) (2 ^ v) 16) 16 0 = true)
    (H : ∀ x14 x17 : Int32, (gb_rd (gb_cp (gb_gn f g) 1) 16 g = 0 → x14 = 1) → (gb_rd (gb_cp (gb_gn f g) 1) 16 g ≠ 0 → x14 = 0) → (gb_bd (gb_cp (gb_gn f g) 3) 16 % 2 = 1 → x17 = 1) → (¬ gb_bd (gb_cp (gb_gn f g) 3) 16 % 2 = 1 → x17 = 0) →
      wL_lawOf_164 post mc ms (nI a) (nI b) x8 x9 x10 x11 x12 z0 x14 1 x17 kc ks) :
    wL_lawOf_126 post mc ms (nI v) (nI a) (nI b) x8 x9 x10 x11 x12 z0 kc ks (nI 3) kn sz bc bs zs a1 a2 a3 a4 := by
  have hb := gb_bd_lt (gb_cp (gb_gn f g) 3) 16 (by omega)
  unfold wL_lawOf_126
  rw [gb_sh v (by omega)]
  refine gb_redundant hg (fun c sz' a2' a3' => gb_relates (by omega) hg (gb_p4 v hv) hr (fun sz2 b2 b3 b4 => gb_bound ?_)) (fun c sz' a2' a3' => gb_relates (by omega) hg (gb_p4 v hv) hr (fun sz2 b2 b3 b4 => gb_bound ?_))
  · exact gb_par hb (fun d => H 1 1 (fun _ => rfl) (fun z => absurd c z) (fun _ => rfl) (fun z => absurd d z)) (fun d => H 1 0 (fun _ => rfl) (fun z => absurd c z) (fun z => absurd z d) (fun _ => rfl))
  · exact gb_par hb (fun d => H 0 1 (fun z => absurd z c) (fun _ => rfl) (fun _ => rfl) (fun z => absurd d z)) (fun d => H 0 0 (fun z => absurd z c) (fun _ => rfl) (fun z => absurd z d) (fun _ => rfl))
theorem gb_law {post : Int32 → St0 → Prop} (p0 p1 p2 : Int32) (hp : post 1 ()) : wpL_lawOf post 5 96 () p0 p1 p2 := by
  obtain ⟨v, hv, ev⟩ := pk_andE p0 (m := 3) 2 (by decide)
  obtain ⟨w, hw, ew⟩ := pk_andE p1 (m := 3) 2 (by decide)
  obtain ⟨a, ha, ea⟩ := pk_andE p2 (m := 1) 1 (by decide)
  obtain ⟨b, hb, eb⟩ := pk_andE (p2 >>> ((1 : Int32) &&& 31)) (m := 1) 1 (by decide)
  have hv : v < 4 := hv
  have hw : w < 4 := hw
  have ha : a < 2 := ha
  have hb : b < 2 := hb
  have hk := gb_all v hv w hw a ha b hb
  have hf := gb_gen_lt v hv a ha
  have hg := gb_gen_lt w hw b hb
  have hgs := gb_gens hf hg
  have ef := gb_gen v hv a ha
  have eg := gb_gen w hw b hb
  have ep := gb_pr v hv w hw
  have hpl := gb_pr_lt v hv w hw
  unfold gb_ok at hk
  simp only [Bool.and_eq_true, decide_eq_true_eq] at hk
  obtain ⟨⟨⟨⟨⟨⟨k1, k2⟩, k3⟩, k4⟩, k5⟩, k6⟩, k7⟩ := hk
  have sa : (1 : Int32) <<< (nI a &&& 31) = nI (2 ^ a) := gb_sh a (by omega)
  have sab : nI a &&& nI b = nI (a &&& b) := gb_and4 a (by omega) b (by omega)
  unfold wpL_lawOf
  refine ⟨by omega, by omega, 4, 86, by omega, by omega, ?_⟩
  unfold wpX_init
  dsimp only
  refine ⟨by omega, by omega, by omega, by omega, by omega, by omega, by omega, by omega, ?_⟩
  refine nm_r ev (nm_r ew (nm_r ea (nm_r eb ?_)))
  rw [ef, eg, ep]
  refine gb_add0 hf (gb_add1 hg (gb_zeroCount (by omega) hgs (fun sz1 b2 b3 b4 hM => ?_)))
  refine gb_values (gb_zs_lt _ 16 (by omega)) hv (gb_size (gb_rest hM hpl ?_))
  refine pk_eq v w (fun c => ?_) (fun c => ?_)
  · by_cases d : a = b
    · refine br_f (by decide) (br_t (by rw [d]) (gb_126 hv hgs k6 (fun x14 x17 h1 h2 h3 h4 => ?_)))
      rw [if_pos c, if_pos d] at k1 k2 k4
      rw [if_pos c] at k3
      rw [k1, k2, k3, k4]
      exact gb_e2 (by rw [d]) rfl sa.symm rfl sab.symm (h1 (k5.mpr ⟨c, d⟩)) (by decide) (h4 (fun z => (k7.mp z).2 d)) hp
    · refine br_f (by decide) (br_f (fun z => d ((nI_eq (by omega) (by omega)).mp z)) (gb_126 hv hgs k6 (fun x14 x17 h1 h2 h3 h4 => ?_)))
      rw [if_pos c, if_neg d] at k1 k2 k4
      rw [if_pos c] at k3
      rw [k1, k2, k3, k4]
      exact gb_e3 (fun z => d ((nI_eq (by omega) (by omega)).mp z)) rfl rfl rfl rfl (h2 (fun z => d (k5.mp z).2)) (by decide) (h3 (k7.mpr ⟨c, d⟩)) hp
  · refine br_t rfl (gb_126 hv hgs k6 (fun x14 x17 h1 h2 h3 h4 => ?_))
    rw [if_neg c] at k1 k2 k3 k4
    rw [k1, k2, k3, k4]
    exact gb_e1 rfl sa.symm rfl sab.symm (h2 (fun z => c (k5.mp z).1)) (by decide) (h4 (fun z => c (k7.mp z).1)) hp
theorem gb_cell {post : Int32 → Prop} {L : Nat} {xs : Nat → Int32} (hL : L ≤ 3) (k : Nat) (hk : k < 3) (H : ∀ r, post r) : wpL_cellAt post L xs () (nI k) := by
  unfold wpL_cellAt
  exact pk_le L k (fun _ => H _) (fun z => ⟨pk_in k L z, H _⟩)
theorem i_vc (xs : Nat → Int32) (L : Nat) (hL : L ≤ 3) : wpL_law (fun r => r = 1) L xs := by
  unfold wpL_law
  refine gb_cell hL 0 (by omega) (fun r1 => gb_cell hL 1 (by omega) (fun r2 => gb_cell hL 2 (by omega) (fun r3 => ?_)))
  exact ⟨5, 96, by omega, by omega, gb_law r1 r2 r3 rfl⟩
end
