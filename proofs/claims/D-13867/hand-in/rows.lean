section
/-- an if-then-else under a predicate, read as the printed pair of roads -/
theorem rz_if {α : Type} {c : Prop} [Decidable c] {A B : Prop} {P : α → Prop} {x y : α} (h : P (if c then x else y)) (f : P x → A) (g : P y → B) : (c → A) ∧ (¬ c → B) :=
  ⟨fun hc => f (by rw [if_pos hc] at h; exact h), fun hc => g (by rw [if_neg hc] at h; exact h)⟩
theorem rz_cl {r : Nat} (hr : r < 4) : (nI r).toNatClampNeg = r := nI_clamp (by omega)
theorem rz_in {r : Nat} (hr : r < 4) : vp_in (nI r) 4 := vp_in_nI hr (by decide)
/-! bitsOf -/
def rz_bl : Nat → Int64 → Int32 → Int32
  | 0, _, n => n
  | k + 1, m, n => if m >>> (n.toInt64 &&& 63) = 0 then n else rz_bl k m (n + 1)
theorem rz_bits_w {post : Int32 → Prop} {m : Int64} : ∀ (k i : Nat), k + i = 62 → post (rz_bl k m (nI i)) → wX_bitsOf_2 post m (k + 1) (nI i)
  | 0, i, h, hp => br_t (nI_le (a := 62) (b := i) (by omega) (by omega)) hp
  | k + 1, i, h, hp => by
    unfold rz_bl at hp
    exact br_f (nI_ge (a := i) (b := 62) (by omega) (by decide)) (rz_if hp id (fun hp => nm_r (nI_1 i) (rz_bits_w k (i + 1) (by omega) (by rw [← nI_1]; exact hp))))
theorem rz_bits {post : Int32 → Prop} {m : Int64} (h : post (rz_bl 62 m 0)) : wpX_bitsOf post () m := ⟨63, rz_bits_w 62 0 rfl h⟩
/-! store -/
def rz_st : Nat → Int64 → Int32 → Int64 × Int32
  | 0, m, e => (m, e)
  | k + 1, m, e => if m = 0 then (m, e) else if (m &&& 1) = 0 then rz_st k (m >>> ((1 : Int32).toInt64 &&& 63)) (e + 1) else (m, e)
def rz_sg (neg : Int32) (o : Int64) : Int32 := if neg = 0 then o.toInt32 else (-o).toInt32
def rz_M (neg : Int32) (m : Int64) (e : Int32) : Int32 := rz_sg neg (rz_st 62 m e).1
def rz_E (m : Int64) (e : Int32) : Int32 := if (rz_st 62 m e).1 = 0 then 0 else (rz_st 62 m e).2
theorem rz_s48 {post : St1 → Prop} {b md fl : Int32} {a1 a2 : Nat → Int32} {r : Nat} (hr : r < 4) (neg : Int32) (o : Int64) (x : Int32)
    (h : post (b, md, fl, upd a1 r (rz_sg neg o), upd a2 r (if o = 0 then 0 else x))) : wX_store_48 post (nI r) neg o x b md fl a1 a2 := by
  have k : ∀ z : Int64, z.toInt32 = rz_sg neg o → wX_store_65 post (nI r) o x z (nI r) b md fl a1 a2 := by
    intro z hz
    refine ⟨rz_in hr, nm_r (e' := upd a1 r (rz_sg neg o)) (by rw [rz_cl hr, hz]) ?_⟩
    by_cases c : o = 0
    · rw [if_pos c] at h
      exact br_t c ⟨rz_in hr, nm_r (e' := upd a2 r 0) (by rw [rz_cl hr]) h⟩
    · rw [if_neg c] at h
      exact br_f c ⟨rz_in hr, nm_r (e' := upd a2 r x) (by rw [rz_cl hr]) h⟩
  by_cases c : neg = 0
  · exact br_t c (k o (by unfold rz_sg; rw [if_pos c]))
  · exact br_f c (k (-o) (by unfold rz_sg; rw [if_neg c]))
def rz_sp (post : St1 → Prop) (b md fl : Int32) (a1 a2 : Nat → Int32) (r : Nat) (neg : Int32) (t : Int64 × Int32) : Prop :=
  post (b, md, fl, upd a1 r (rz_sg neg t.1), upd a2 r (if t.1 = 0 then 0 else t.2))
theorem rz_store_w {post : St1 → Prop} {b md fl : Int32} {a1 a2 : Nat → Int32} {r : Nat} (hr : r < 4) (neg : Int32) : ∀ (k i : Nat) (m : Int64) (e : Int32), k + i = 62 →
    rz_sp post b md fl a1 a2 r neg (rz_st k m e) → wX_store_10 post (nI r) neg b md fl a1 a2 (k + 1) m e (nI i)
  | 0, i, m, e, h, hp => br_t (nI_le (a := 62) (b := i) (by omega) (by omega)) (rz_s48 hr neg m e hp)
  | k + 1, i, m, e, h, hp => by
    unfold rz_st at hp
    refine br_f (nI_ge (a := i) (b := 62) (by omega) (by decide)) (rz_if hp (fun hp => rz_s48 hr neg m e hp) (fun hp => rz_if hp (fun hp => ?_) (fun hp => rz_s48 hr neg m e hp)))
    exact nm_e (nm_e (nm_r (nI_1 i) (rz_store_w hr neg k (i + 1) _ _ (by omega) hp)))
theorem rz_store {post : St1 → Prop} {b md fl : Int32} {a1 a2 : Nat → Int32} {r : Nat} (hr : r < 4) (neg : Int32) (m : Int64) (e : Int32)
    (h : post (b, md, fl, upd a1 r (rz_M neg m e), upd a2 r (rz_E m e))) : wpX_store post (b, md, fl, a1, a2) (nI r) neg m e :=
  ⟨63, rz_store_w hr neg 62 0 m e rfl h⟩
/-! small methods -/
theorem rz_reg {post : Int32 → Prop} {r : Nat} (hr : r < 4) (h : post 1) : wpX_isRegister post () (nI r) := br_f (nI_pos (by omega)) (br_f (nI_ge (b := 4) hr (by decide)) h)
theorem rz_10 : ¬ (1 : Int32) = 0 := by decide
theorem rz_mant {post : Int32 → Prop} {b md fl : Int32} {a1 a2 : Nat → Int32} {r : Nat} (hr : r < 4) (h : post (a1 r)) : wpX_mantissa post (b, md, fl, a1, a2) (nI r) := by
  unfold wpX_mantissa
  refine rz_reg hr ?_
  refine br_f rz_10 ⟨rz_in hr, ?_⟩
  rw [rz_cl hr]
  exact h
theorem rz_expo {post : Int32 → Prop} {b md fl : Int32} {a1 a2 : Nat → Int32} {r : Nat} (hr : r < 4) (h : post (a2 r)) : wpX_exponent post (b, md, fl, a1, a2) (nI r) := by
  unfold wpX_exponent
  refine rz_reg hr ?_
  refine br_f rz_10 ⟨rz_in hr, ?_⟩
  rw [rz_cl hr]
  exact h
def rz_sz (m : Int64) : Int64 := if 0 ≤ m then m else -m
theorem rz_size {post : Int64 → Prop} {m : Int64} (h : post (rz_sz m)) : wpX_size post () m := by
  unfold rz_sz at h
  exact rz_if h id id
/-! compare -/
def rz_low (e1 e2 : Int32) : Int32 := if e2 ≤ e1 then e2 else e1
def rz_sh (m : Int64) (k : Int32) : Int64 := m <<< (k.toInt64 &&& 63)
def rz_cmp (x y : Int64) : Int32 := if x = y then 0 else if y ≤ x then 1 else -1
theorem rz_comp {post : Int32 → Prop} {b md fl : Int32} {a1 a2 : Nat → Int32} {r s : Nat} (hr : r < 4) (hs : s < 4)
    (h : post (rz_cmp (rz_sh (a1 r).toInt64 (a2 r - rz_low (a2 r) (a2 s))) (rz_sh (a1 s).toInt64 (a2 s - rz_low (a2 r) (a2 s))))) : wpX_compare post (b, md, fl, a1, a2) (nI r) (nI s) := by
  unfold wpX_compare
  refine rz_reg hr ?_
  refine br_f rz_10 ?_
  refine rz_reg hs ?_
  refine br_f rz_10 ⟨rz_in hr, rz_in hs, ?_⟩
  rw [rz_cl hr, rz_cl hs]
  have k : ∀ z, z = rz_low (a2 r) (a2 s) → wX_compare_46 post (nI r) (nI s) z b md fl a1 a2 := by
    intro z hz
    subst hz
    unfold wX_compare_46
    rw [rz_cl hr, rz_cl hs]
    unfold rz_cmp at h
    exact ⟨rz_in hr, rz_in hr, nm_e ⟨rz_in hs, rz_in hs, nm_e (rz_if h id (fun h => rz_if h id id))⟩⟩
  by_cases c : a2 s ≤ a2 r
  · exact br_t c ⟨rz_in hs, k _ (by unfold rz_low; rw [if_pos c])⟩
  · exact br_f c ⟨rz_in hr, k _ (by unfold rz_low; rw [if_neg c])⟩
/-! rounding -/
def rz_ga5 (md neg : Int32) : Int32 := if md = 1 then (if neg = 0 then 0 else 1) else 0
def rz_ga (md neg odd : Int32) (lost : Int64) (cut more : Int32) : Int32 :=
  if md = 0 then (if cut ≤ 60 then (if ((1 : Int64) <<< ((cut - 1).toInt64 &&& 63)) < lost then 1 else (if lost = ((1 : Int64) <<< ((cut - 1).toInt64 &&& 63)) then (if more = 0 then (if odd = 0 then 0 else 1) else 1) else 0)) else 0)
  else (if md = 2 then (if neg = 0 then 1 else rz_ga5 md neg) else rz_ga5 md neg)
theorem rz_away5 {post : Int32 → Prop} {b md fl : Int32} {a1 a2 : Nat → Int32} (neg : Int32) (h : post (rz_ga5 md neg)) : wX_goesAway_65 post neg b md fl a1 a2 := by
  unfold rz_ga5 at h
  exact rz_if h (fun h => rz_if h id id) id
theorem rz_away {post : Int32 → Prop} {b md fl : Int32} {a1 a2 : Nat → Int32} {neg odd cut more : Int32} {lost : Int64} (h : post (rz_ga md neg odd lost cut more)) :
    wpX_goesAway post (b, md, fl, a1, a2) neg odd lost cut more := by
  unfold rz_ga at h
  exact rz_if h (fun h => rz_if h (fun h => nm_e (rz_if h id (fun h => rz_if h (fun h => rz_if h (fun h => rz_if h id id) id) id))) id) (fun h => rz_if h (fun h => rz_if h id (fun h => rz_away5 neg h)) (fun h => rz_away5 neg h))
/-- what a rounding answers and leaves: t = (flags, the mantissa before the odd part is taken, its exponent) -/
def rz_put (post : Int32 → St1 → Prop) (b md fl : Int32) (a1 a2 : Nat → Int32) (r : Nat) (neg : Int32) (t : Int32 × Int64 × Int32) : Prop :=
  post t.1 (b, md, fl ||| t.1, upd a1 r (rz_M neg t.2.1 t.2.2), upd a2 r (rz_E t.2.1 t.2.2))
theorem rz_or0 (x : Int32) : x ||| 0 = x := by simp
def rz_full (b : Int32) : Int64 := ((1 : Int64) <<< (b.toInt64 &&& 63)) - 1
def rz_lim (b : Int32) : Int32 × Int64 × Int32 := (3, rz_full b, 11)
theorem rz_limit {post : Int32 → St1 → Prop} {b md fl : Int32} {a1 a2 : Nat → Int32} {r : Nat} (hr : r < 4) (neg : Int32) (h : rz_put post b md fl a1 a2 r neg (rz_lim b)) :
    wpX_limit post (b, md, fl, a1, a2) (nI r) neg :=
  rz_store hr neg _ _ (nm_e h)
/-- an exact result: no flag -/
theorem rz_exact {post : Int32 → St1 → Prop} {b md fl : Int32} {a1 a2 : Nat → Int32} {r : Nat} {neg : Int32} {m : Int64} {e : Int32} (h : rz_put post b md fl a1 a2 r neg (0, m, e)) :
    post 0 (b, md, fl, upd a1 r (rz_M neg m e), upd a2 r (rz_E m e)) := by
  have h' : post 0 (b, md, fl ||| 0, upd a1 r (rz_M neg m e), upd a2 r (rz_E m e)) := h
  rw [rz_or0] at h'
  exact h'
def rz_R167 (md neg more unit cut : Int32) (kept lost : Int64) : Int32 × Int64 × Int32 :=
  (1, (if rz_ga md neg (if (kept &&& 1) = 0 then 0 else 1) lost cut more = 0 then kept else kept + 1), unit)
def rz_R139 (b md neg more unit cut : Int32) (kept lost : Int64) : Int32 × Int64 × Int32 :=
  if unit = 11 then (if kept = rz_full b then rz_lim b else rz_R167 md neg more unit cut kept lost) else rz_R167 md neg more unit cut kept lost
def rz_R113 (b md neg more unit cut : Int32) (kept lost : Int64) : Int32 × Int64 × Int32 :=
  if lost = 0 then (if more = 0 then (0, kept, unit) else rz_R139 b md neg more unit cut kept lost) else rz_R139 b md neg more unit cut kept lost
def rz_R55 (b md neg : Int32) (m : Int64) (e more unit : Int32) : Int32 × Int64 × Int32 :=
  if 0 < unit - e then (if unit - e ≤ 60 then rz_R113 b md neg more unit (unit - e) (m >>> ((unit - e).toInt64 &&& 63)) (m - ((m >>> ((unit - e).toInt64 &&& 63)) <<< ((unit - e).toInt64 &&& 63)))
    else rz_R113 b md neg more unit (unit - e) 0 m) else (0, m, e)
def rz_R33 (b md neg : Int32) (m : Int64) (e more unit : Int32) : Int32 × Int64 × Int32 :=
  if m = 0 then rz_R55 b md neg m e more unit else (if unit ≤ 11 then rz_R55 b md neg m e more unit else rz_lim b)
def rz_u (b n e : Int32) : Int32 := if (-12) ≤ ((n + e) - b) then (n + e) - b else -12
def rz_R (b md neg : Int32) (m : Int64) (e more : Int32) : Int32 × Int64 × Int32 := rz_R33 b md neg m e more (rz_u b (rz_bl 62 m 0) e)
theorem rz_r167 {post : Int32 → St1 → Prop} {b md fl : Int32} {a1 a2 : Nat → Int32} {r : Nat} (hr : r < 4) {neg more unit cut : Int32} {kept lost : Int64}
    (h : rz_put post b md fl a1 a2 r neg (rz_R167 md neg more unit cut kept lost)) : wX_round_167 post (nI r) neg more unit cut kept lost b md fl a1 a2 := by
  have k : ∀ odd : Int32, odd = (if (kept &&& 1) = 0 then 0 else 1) → wX_round_183 post (nI r) neg more unit cut kept lost odd neg b md fl a1 a2 := by
    intro odd ho
    refine rz_away ?_
    rw [ho]
    unfold rz_R167 at h
    by_cases c : rz_ga md neg (if (kept &&& 1) = 0 then 0 else 1) lost cut more = 0
    · rw [if_pos c] at h
      exact br_t c (rz_store hr neg _ _ (nm_e h))
    · rw [if_neg c] at h
      exact br_f c (rz_store hr neg _ _ (nm_e h))
  by_cases c : (kept &&& 1) = 0
  · exact br_t c (k 0 (by rw [if_pos c]))
  · exact br_f c (k 1 (by rw [if_neg c]))
theorem rz_r139 {post : Int32 → St1 → Prop} {b md fl : Int32} {a1 a2 : Nat → Int32} {r : Nat} (hr : r < 4) {neg more unit cut : Int32} {kept lost : Int64}
    (h : rz_put post b md fl a1 a2 r neg (rz_R139 b md neg more unit cut kept lost)) : wX_round_139 post (nI r) neg more unit cut kept lost b md fl a1 a2 := by
  unfold rz_R139 at h
  exact rz_if h (fun h => rz_if h (fun h => rz_limit hr neg h) (fun h => rz_r167 hr h)) (fun h => rz_r167 hr h)
theorem rz_r113 {post : Int32 → St1 → Prop} {b md fl : Int32} {a1 a2 : Nat → Int32} {r : Nat} (hr : r < 4) {neg more unit cut : Int32} {kept lost : Int64}
    (h : rz_put post b md fl a1 a2 r neg (rz_R113 b md neg more unit cut kept lost)) : wX_round_113 post (nI r) neg more unit cut kept lost b md fl a1 a2 := by
  unfold rz_R113 at h
  exact rz_if h (fun h => rz_if h (fun h => rz_store hr neg _ _ (rz_exact h)) (fun h => rz_r139 hr h)) (fun h => rz_r139 hr h)
theorem rz_r55 {post : Int32 → St1 → Prop} {b md fl : Int32} {a1 a2 : Nat → Int32} {r : Nat} (hr : r < 4) {neg more unit e : Int32} {m : Int64}
    (h : rz_put post b md fl a1 a2 r neg (rz_R55 b md neg m e more unit)) : wX_round_55 post (nI r) neg m e more unit b md fl a1 a2 := by
  unfold rz_R55 at h
  refine nm_e (rz_if h (fun h => ?_) (fun h => rz_store hr neg _ _ (rz_exact h)))
  by_cases c : unit - e ≤ 60
  · rw [if_pos c] at h
    exact br_t c (br_t c (rz_r113 hr h))
  · rw [if_neg c] at h
    exact br_f c (br_f c (rz_r113 hr h))
theorem rz_r33 {post : Int32 → St1 → Prop} {b md fl : Int32} {a1 a2 : Nat → Int32} {r : Nat} (hr : r < 4) {neg more unit e : Int32} {m : Int64}
    (h : rz_put post b md fl a1 a2 r neg (rz_R33 b md neg m e more unit)) : wX_round_33 post (nI r) neg m e more unit b md fl a1 a2 := by
  unfold rz_R33 at h
  exact rz_if h (fun h => rz_r55 hr h) (fun h => rz_if h (fun h => rz_r55 hr h) (fun h => rz_limit hr neg h))
theorem rz_round {post : Int32 → St1 → Prop} {b md fl : Int32} {a1 a2 : Nat → Int32} {r : Nat} (hr : r < 4) {neg more e : Int32} {m : Int64}
    (h : rz_put post b md fl a1 a2 r neg (rz_R b md neg m e more)) : wpX_round post (b, md, fl, a1, a2) (nI r) neg m e more := by
  unfold rz_R rz_u at h
  refine rz_bits ?_
  refine nm_e ?_
  by_cases c : (-12) ≤ ((rz_bl 62 m 0 + e) - b)
  · rw [if_pos c] at h
    exact br_t c (rz_r33 hr h)
  · rw [if_neg c] at h
    exact br_f c (rz_r33 hr h)
end
section
/-! the operations: each ends in a rounding -/
def rz_ng (m : Int64) : Int32 := if 0 ≤ m then 0 else 1
theorem rz_exactly {post : Int32 → St1 → Prop} {b md fl : Int32} {a1 a2 : Nat → Int32} {r : Nat} (hr : r < 4) {m : Int64} {e : Int32}
    (h : rz_put post b md fl a1 a2 r (rz_ng m) (rz_R b md (rz_ng m) (rz_sz m) e 0)) : wpX_exactly post (b, md, fl, a1, a2) (nI r) m e := by
  unfold wpX_exactly
  refine rz_size ?_
  by_cases c : 0 ≤ m
  · have e0 : rz_ng m = 0 := by unfold rz_ng; rw [if_pos c]
    rw [e0] at h
    exact br_t c (rz_round hr h)
  · have e0 : rz_ng m = 1 := by unfold rz_ng; rw [if_neg c]
    rw [e0] at h
    exact br_f c (rz_round hr h)
theorem rz_load {post : Int32 → St1 → Prop} {b md fl : Int32} {a1 a2 : Nat → Int32} {r : Nat} (hr : r < 4) {m e : Int32} (h1 : ¬ m < (-1000000)) (h2 : ¬ 1000000 < m) (h3 : ¬ e < (-20)) (h4 : e ≤ 20)
    (h : rz_put post b md fl a1 a2 r (rz_ng m.toInt64) (rz_R b md (rz_ng m.toInt64) (rz_sz m.toInt64) e 0)) : wpX_load post (b, md, fl, a1, a2) (nI r) m e :=
  by
  unfold wpX_load
  refine rz_reg hr ?_
  exact br_f rz_10 (br_f h1 (br_f h2 (br_f h3 (br_t h4 (rz_exactly hr h)))))
def rz_tot (m : Int64) (e : Int32) (n : Int64) (f : Int32) : Int64 := rz_sh m (e - rz_low e f) + rz_sh n (f - rz_low e f)
theorem rz_sum {post : Int32 → St1 → Prop} {b md fl : Int32} {a1 a2 : Nat → Int32} {r : Nat} (hr : r < 4) {m n : Int64} {e f : Int32}
    (h : rz_put post b md fl a1 a2 r (rz_ng (rz_tot m e n f)) (rz_R b md (rz_ng (rz_tot m e n f)) (rz_sz (rz_tot m e n f)) (rz_low e f) 0)) : wpX_sum post (b, md, fl, a1, a2) (nI r) m e n f := by
  have k : ∀ z, z = rz_low e f → wX_sum_14 post (nI r) m e n f z b md fl a1 a2 := by
    intro z hz
    subst hz
    exact nm_e (rz_exactly hr h)
  by_cases c : f ≤ e
  · exact br_t c (k _ (by unfold rz_low; rw [if_pos c]))
  · exact br_f c (k _ (by unfold rz_low; rw [if_neg c]))
theorem rz_add {post : Int32 → St1 → Prop} {b md fl : Int32} {a1 a2 : Nat → Int32} {r i j : Nat} (hr : r < 4) (hi : i < 4) (hj : j < 4) (T : Int64) (hT : T = rz_tot (a1 i).toInt64 (a2 i) (a1 j).toInt64 (a2 j))
    (h : rz_put post b md fl a1 a2 r (rz_ng T) (rz_R b md (rz_ng T) (rz_sz T) (rz_low (a2 i) (a2 j)) 0)) : wpX_add post (b, md, fl, a1, a2) (nI r) (nI i) (nI j) := by
  subst hT
  unfold wpX_add
  refine rz_reg hr ?_
  refine br_f rz_10 ?_
  refine rz_reg hi ?_
  refine br_f rz_10 ?_
  refine rz_reg hj ?_
  refine br_f rz_10 ⟨rz_in hi, rz_in hi, rz_in hj, rz_in hj, ?_⟩
  rw [rz_cl hi, rz_cl hj]
  exact rz_sum hr h
theorem rz_sub {post : Int32 → St1 → Prop} {b md fl : Int32} {a1 a2 : Nat → Int32} {r i j : Nat} (hr : r < 4) (hi : i < 4) (hj : j < 4) (T : Int64) (hT : T = rz_tot (a1 i).toInt64 (a2 i) (-(a1 j)).toInt64 (a2 j))
    (h : rz_put post b md fl a1 a2 r (rz_ng T) (rz_R b md (rz_ng T) (rz_sz T) (rz_low (a2 i) (a2 j)) 0)) : wpX_sub post (b, md, fl, a1, a2) (nI r) (nI i) (nI j) := by
  subst hT
  unfold wpX_sub
  refine rz_reg hr ?_
  refine br_f rz_10 ?_
  refine rz_reg hi ?_
  refine br_f rz_10 ?_
  refine rz_reg hj ?_
  refine br_f rz_10 ⟨rz_in hi, rz_in hi, rz_in hj, rz_in hj, ?_⟩
  rw [rz_cl hi, rz_cl hj]
  exact rz_sum hr h
theorem rz_mul {post : Int32 → St1 → Prop} {b md fl : Int32} {a1 a2 : Nat → Int32} {r i j : Nat} (hr : r < 4) (hi : i < 4) (hj : j < 4) (T : Int64) (hT : T = (a1 i).toInt64 * (a1 j).toInt64)
    (h : rz_put post b md fl a1 a2 r (rz_ng T) (rz_R b md (rz_ng T) (rz_sz T) (a2 i + a2 j) 0)) : wpX_mul post (b, md, fl, a1, a2) (nI r) (nI i) (nI j) := by
  subst hT
  unfold wpX_mul
  refine rz_reg hr ?_
  refine br_f rz_10 ?_
  refine rz_reg hi ?_
  refine br_f rz_10 ?_
  refine rz_reg hj ?_
  refine br_f rz_10 ⟨rz_in hi, rz_in hj, ?_⟩
  rw [rz_cl hi, rz_cl hj]
  exact nm_e ⟨rz_in hi, rz_in hj, rz_exactly hr h⟩
/-! division: p the scaled dividend, d the divisor (both sizes) -/
def rz_mo (p d : Int64) : Int32 := if p / d * d = p then 0 else 1
def rz_n0 (x : Int32) : Int32 := if 0 ≤ x then 0 else 1
def rz_nx (x y : Int32) : Int32 := if rz_n0 x = rz_n0 y then 0 else 1
theorem rz_div {post : Int32 → St1 → Prop} {b md fl : Int32} {a1 a2 : Nat → Int32} {r i j : Nat} (hr : r < 4) (hi : i < 4) (hj : j < 4) (d p : Int64) (hd : d = rz_sz (a1 j).toInt64) (hp : p = rz_sh (rz_sz (a1 i).toInt64) 40)
    (h0 : d = 0 → rz_put post b md fl a1 a2 r 0 (4, 0, 0))
    (h1 : ¬ d = 0 → rz_put post b md fl a1 a2 r (rz_nx (a1 i) (a1 j)) (rz_R b md (rz_nx (a1 i) (a1 j)) (p / d) (a2 i - a2 j - 40) (rz_mo p d))) : wpX_div post (b, md, fl, a1, a2) (nI r) (nI i) (nI j) := by
  subst hd
  subst hp
  unfold wpX_div
  refine rz_reg hr ?_
  refine br_f rz_10 ?_
  refine rz_reg hi ?_
  refine br_f rz_10 ?_
  refine rz_reg hj ?_
  refine br_f rz_10 ⟨rz_in hj, ?_⟩
  rw [rz_cl hi, rz_cl hj]
  refine rz_size ?_
  refine br_c (fun c => rz_store hr 0 _ _ (nm_e (h0 c))) (fun c => ⟨rz_in hi, ?_⟩)
  refine rz_size ?_
  refine nm_e ⟨c, nm_e ?_⟩
  have h := h1 c
  have k124 : ∀ more z, more = rz_mo (rz_sh (rz_sz (a1 i).toInt64) 40) (rz_sz (a1 j).toInt64) → z = rz_nx (a1 i) (a1 j) →
      wX_div_124 post (nI r) (nI i) (nI j) (rz_sh (rz_sz (a1 i).toInt64) 40 / rz_sz (a1 j).toInt64) more z b md fl a1 a2 := by
    intro more z hm hz
    rw [← hm, ← hz] at h
    refine ⟨rz_in hi, rz_in hj, ?_⟩
    rw [rz_cl hi, rz_cl hj]
    exact rz_round hr h
  have k116 : ∀ more z0 z1, more = rz_mo (rz_sh (rz_sz (a1 i).toInt64) 40) (rz_sz (a1 j).toInt64) → z0 = rz_n0 (a1 j) → z1 = rz_n0 (a1 i) →
      wX_div_116 post (nI r) (nI i) (nI j) (rz_sh (rz_sz (a1 i).toInt64) 40 / rz_sz (a1 j).toInt64) more z0 z1 b md fl a1 a2 := by
    intro more z0 z1 hm e0 e1
    by_cases c : z1 = z0
    · exact br_t c (k124 _ _ hm (by unfold rz_nx; rw [← e0, ← e1, if_pos c]))
    · exact br_f c (k124 _ _ hm (by unfold rz_nx; rw [← e0, ← e1, if_neg c]))
  have k102 : ∀ more z0, more = rz_mo (rz_sh (rz_sz (a1 i).toInt64) 40) (rz_sz (a1 j).toInt64) → z0 = rz_n0 (a1 i) →
      wX_div_102 post (nI r) (nI i) (nI j) (rz_sh (rz_sz (a1 i).toInt64) 40 / rz_sz (a1 j).toInt64) more z0 b md fl a1 a2 := by
    intro more z0 hm e0
    refine ⟨rz_in hj, ?_⟩
    rw [rz_cl hj]
    exact br_c (fun c => k116 _ _ _ hm (by unfold rz_n0; rw [if_pos c]) e0) (fun c => k116 _ _ _ hm (by unfold rz_n0; rw [if_neg c]) e0)
  have k86 : ∀ more, more = rz_mo (rz_sh (rz_sz (a1 i).toInt64) 40) (rz_sz (a1 j).toInt64) →
      wX_div_86 post (nI r) (nI i) (nI j) (rz_sh (rz_sz (a1 i).toInt64) 40 / rz_sz (a1 j).toInt64) more b md fl a1 a2 := by
    intro more hm
    refine ⟨rz_in hi, ?_⟩
    rw [rz_cl hi]
    exact br_c (fun c => k102 _ _ hm (by unfold rz_n0; rw [if_pos c])) (fun c => k102 _ _ hm (by unfold rz_n0; rw [if_neg c]))
  exact br_c (fun c => k86 _ (by unfold rz_mo; exact (if_pos c).symm)) (fun c => k86 _ (by unfold rz_mo; exact (if_neg c).symm))
theorem rz_mode {post : Int32 → St1 → Prop} {b md fl : Int32} {a1 a2 : Nat → Int32} {j : Nat} (hj : j < 4) (h : post 1 (b, nI j, fl, a1, a2)) : wpX_setMode post (b, md, fl, a1, a2) (nI j) :=
  br_f (nI_pos (by omega)) (br_t (nI_le (b := 3) (by omega) (by decide)) h)
/-! next: none = nothing changes and the answer is 0; some (K, X) = K * 2^X is stored -/
def rz_nu (b : Int32) (m : Int64) (e : Int32) : Int32 := if m = 0 then -12 else rz_u b (rz_bl 62 m 0) e
def rz_wh (b : Int32) (m : Int64) (e : Int32) : Int64 := rz_sh m (if m = 0 then 0 else e - rz_nu b m e)
def rz_N (b : Int32) (out unit : Int32) (w : Int64) : Option (Int64 × Int32) :=
  if out = 0 then (if w = ((1 : Int64) <<< ((b - 1).toInt64 &&& 63)) then (if unit ≤ (-12) then some (w - 1, unit) else some (rz_full b, unit - 1)) else some (w - 1, unit))
  else (if unit = 11 then (if w = rz_full b then none else some (w + 1, unit)) else some (w + 1, unit))
def rz_np (post : Int32 → St1 → Prop) (b md fl : Int32) (a1 a2 : Nat → Int32) (r : Nat) (neg : Int32) (t : Option (Int64 × Int32)) : Prop :=
  (t = none → post 0 (b, md, fl, a1, a2)) ∧ (∀ x, t = some x → post 1 (b, md, fl, upd a1 r (rz_M neg x.1 x.2), upd a2 r (rz_E x.1 x.2)))
theorem rz_n132 {post : Int32 → St1 → Prop} {b md fl : Int32} {a1 a2 : Nat → Int32} {r : Nat} (hr : r < 4) {neg out unit k : Int32} {m : Int64}
    (h : rz_np post b md fl a1 a2 r neg (rz_N b out unit (rz_sh m k))) : wX_next_132 post (nI r) neg out unit k m b md fl a1 a2 := by
  unfold rz_N at h
  have k203 : rz_np post b md fl a1 a2 r neg (some (rz_sh m k - 1, unit)) → wX_next_203 post (nI r) neg unit (rz_sh m k) b md fl a1 a2 :=
    fun h => by
      unfold wX_next_203 wX_next_204
      refine br_t rfl ?_
      unfold wX_next_230
      refine br_t rfl ?_
      unfold wX_next_244
      exact rz_store hr neg (rz_sh m k - 1) unit (h.2 (rz_sh m k - 1, unit) rfl)
  have k163 : rz_np post b md fl a1 a2 r neg (some (rz_sh m k + 1, unit)) → wX_next_163 post (nI r) neg unit (rz_sh m k) b md fl a1 a2 :=
    fun h => rz_store hr neg (rz_sh m k + 1) unit (h.2 (rz_sh m k + 1, unit) rfl)
  refine nm_e (rz_if h (fun h => rz_if h (fun h => rz_if h k203 (fun h => ?_)) k203) (fun h => rz_if h (fun h => rz_if h (fun h => h.1 rfl) k163) k163))
  unfold wX_next_204
  refine br_f rz_10 ?_
  unfold wX_next_230
  refine br_f rz_10 ?_
  unfold wX_next_244
  exact rz_store hr neg (rz_full b) (unit - 1) (h.2 (rz_full b, unit - 1) rfl)
def rz_nn (m : Int64) (x up : Int32) : Int32 := if m = 0 then (if up = 0 then 1 else 0) else rz_n0 x
def rz_ou (neg up : Int32) : Int32 := if neg = up then 0 else 1
theorem rz_next {post : Int32 → St1 → Prop} {b md fl : Int32} {a1 a2 : Nat → Int32} {r : Nat} (hr : r < 4) {up : Int32} (m : Int64) (neg : Int32) (hm : m = rz_sz (a1 r).toInt64) (hn : neg = rz_nn m (a1 r) up)
    (h : rz_np post b md fl a1 a2 r neg (rz_N b (rz_ou neg up) (rz_nu b m (a2 r)) (rz_wh b m (a2 r)))) : wpX_next post (b, md, fl, a1, a2) (nI r) up := by
  have k110 : ∀ z out, z = rz_nu b m (a2 r) → out = rz_ou neg up → wX_next_110 post (nI r) m neg out z b md fl a1 a2 := by
    intro z out hz ho
    rw [← hz, ← ho] at h
    unfold rz_wh at h
    rw [← hz] at h
    by_cases c : m = 0
    · rw [if_pos c] at h
      exact br_t c (rz_n132 hr h)
    · rw [if_neg c] at h
      refine br_f c ⟨rz_in hr, ?_⟩
      rw [rz_cl hr]
      exact rz_n132 hr h
  have k65 : ∀ out, out = rz_ou neg up → wX_next_65 post (nI r) m neg out b md fl a1 a2 := by
    intro out ho
    refine rz_bits ?_
    refine ⟨rz_in hr, ?_⟩
    rw [rz_cl hr]
    refine nm_e ?_
    by_cases c : m = 0
    · exact br_t c (k110 _ _ (by unfold rz_nu; rw [if_pos c]) ho)
    · refine br_f c ?_
      by_cases d : (-12) ≤ ((rz_bl 62 m 0 + a2 r) - b)
      · exact br_t d (k110 _ _ (by unfold rz_nu rz_u; rw [if_neg c, if_pos d]) ho)
      · exact br_f d (k110 _ _ (by unfold rz_nu rz_u; rw [if_neg c, if_neg d]) ho)
  have k52 : ∀ z, z = neg → wX_next_52 post (nI r) up m z b md fl a1 a2 := by
    intro z hz
    subst hz
    by_cases c : z = up
    · exact br_t c (k65 _ (by unfold rz_ou; rw [if_pos c]))
    · exact br_f c (k65 _ (by unfold rz_ou; rw [if_neg c]))
  unfold wpX_next
  refine rz_reg hr ?_
  refine br_f rz_10 ⟨rz_in hr, ?_⟩
  rw [rz_cl hr]
  refine rz_size ?_
  rw [← hm]
  unfold rz_nn rz_n0 at hn
  by_cases c : m = 0
  · rw [if_pos c] at hn
    refine br_t c ?_
    by_cases d : up = 0
    · exact br_t d (k52 _ (by rw [hn, if_pos d]))
    · exact br_f d (k52 _ (by rw [hn, if_neg d]))
  · rw [if_neg c] at hn
    refine br_f c ⟨rz_in hr, ?_⟩
    by_cases d : 0 ≤ a1 r
    · exact br_t d (k52 _ (by rw [hn, if_pos d]))
    · exact br_f d (k52 _ (by rw [hn, if_neg d]))
end
section
/-! rows of laws/BITS.to-paste (starting text): lN as a bit vector, shift counts, masks, >> -/
theorem wb_tb (n : Nat) : (lN n).toBitVec = BitVec.ofNat 64 n := rfl
theorem wb_inj {a b : Int64} (h : a.toBitVec = b.toBitVec) : a = b := Int64.toBitVec_inj.mp h
theorem wb_c : ∀ k, k < 64 → ((nI k).toInt64 &&& 63) = lN k := by decide +kernel
theorem wb_sm : ∀ k, k < 64 → (BitVec.ofNat 64 k).smod 64 = BitVec.ofNat 64 k := by decide +kernel
theorem wb_lt2 {a b : Nat} (h : a < b) : 2 ^ a < 2 ^ b := Nat.pow_lt_pow_right (by decide) h
theorem wb_and {a b : Nat} (ha : a < 2 ^ 64) (hb : b < 2 ^ 64) : lN a &&& lN b = lN (a &&& b) := by
  apply wb_inj
  rw [Int64.toBitVec_and, wb_tb, wb_tb, wb_tb]
  apply BitVec.eq_of_toNat_eq
  rw [BitVec.toNat_and, BitVec.toNat_ofNat, BitVec.toNat_ofNat, BitVec.toNat_ofNat, Nat.mod_eq_of_lt ha, Nat.mod_eq_of_lt hb, Nat.mod_eq_of_lt (Nat.and_lt_two_pow _ hb)]
theorem wb_mask {n k : Nat} (hn : n < 2 ^ 64) (hk : k < 64) : lN n &&& lN (2 ^ k - 1) = lN (n % 2 ^ k) := by
  rw [wb_and hn (by have := wb_lt2 hk; omega), Nat.and_two_pow_sub_one_eq_mod]
theorem wb_a1 {n : Nat} (hn : n < 2 ^ 64) : lN n &&& 1 = lN (n % 2) := wb_mask (k := 1) hn (by decide)
theorem pf_shr {a d : Nat} {D : Int64} (hD : (D.toBitVec.smod 64).toNat = d) (h : a < 2 ^ 62) : lN a >>> D = lN (a / 2 ^ d) := by
  have hd : a / 2 ^ d ≤ a := Nat.div_le_self _ _
  apply Int64.toInt_inj.mp
  have e : (lN a >>> D).toInt = (lN a).toInt >>> d := by
    rw [← hD]
    exact BitVec.toInt_sshiftRight ..
  rw [e, Int.shiftRight_eq_div_pow, pk_lT (by omega), pk_lT (by omega)]
  rfl
/-! own rows: small ints -/
theorem rz_addT {a b : Int32} (h1 : -2147483648 ≤ a.toInt + b.toInt) (h2 : a.toInt + b.toInt < 2147483648) : (a + b).toInt = a.toInt + b.toInt := by
  rw [Int32.toInt_add]
  exact Int.bmod_eq_of_le (by omega) (by omega)
theorem rz_subT {a b : Int32} (h1 : -2147483648 ≤ a.toInt - b.toInt) (h2 : a.toInt - b.toInt < 2147483648) : (a - b).toInt = a.toInt - b.toInt := by
  rw [Int32.toInt_sub]
  exact Int.bmod_eq_of_le (by omega) (by omega)
theorem rz_leT {a b : Int32} : a ≤ b ↔ a.toInt ≤ b.toInt := Int32.le_iff_toInt_le
theorem rz_ltT {a b : Int32} : a < b ↔ a.toInt < b.toInt := Int32.lt_iff_toInt_lt
theorem rz_eqT {a b : Int32} : a = b ↔ a.toInt = b.toInt := Int32.toInt_inj.symm
theorem rz_nT {c : Int32} {k : Nat} (h : c.toInt = k) : c = nI k := by
  have h1 := c.toInt_lt
  apply Int32.toInt_inj.mp
  rw [nI_toInt (by omega), h]
theorem rz_l0 : (0 : Int64) = lN 0 := rfl
theorem rz_l1 : (1 : Int64) = lN 1 := rfl
theorem rz_lz {n : Nat} (h : n < 2 ^ 63) : lN n = 0 ↔ n = 0 := by
  rw [rz_l0]
  exact pk_lEQ h (by decide)
/-! shifts -/
theorem rz_shl (x : Int64) {k : Nat} (hk : k < 64) : x <<< ((nI k).toInt64 &&& 63) = x * lN (2 ^ k) := by
  rw [wb_c k hk]
  apply wb_inj
  rw [Int64.toBitVec_shiftLeft, wb_tb, wb_sm k hk, Int64.toBitVec_mul, wb_tb]
  apply BitVec.eq_of_toNat_eq
  rw [BitVec.shiftLeft_eq', BitVec.toNat_shiftLeft, BitVec.toNat_mul, BitVec.toNat_ofNat, BitVec.toNat_ofNat, Nat.mod_eq_of_lt (show k < 2 ^ 64 by omega), Nat.shiftLeft_eq, Nat.mul_mod_mod]
theorem rz_sh_mul (m : Int64) {c : Int32} {k : Nat} (h : c.toInt = k) (hk : k < 64) : rz_sh m c = m * lN (2 ^ k) := by
  rw [rz_nT h]
  exact rz_shl m hk
theorem rz_shr {M k : Nat} (hM : M < 2 ^ 62) (hk : k < 64) : lN M >>> ((nI k).toInt64 &&& 63) = lN (M / 2 ^ k) := by
  refine pf_shr ?_ hM
  rw [wb_c k hk, wb_tb, wb_sm k hk, BitVec.toNat_ofNat, Nat.mod_eq_of_lt (by omega)]
theorem rz_fullN {B : Nat} (hB : B < 63) : rz_full (nI B) = lN (2 ^ B - 1) := by
  unfold rz_full
  rw [rz_shl 1 (by omega), rz_l1, lN_mul, Nat.one_mul, lN_sub (Nat.one_le_two_pow)]
theorem rz_div0 {M k : Nat} : M / 2 ^ k = 0 ↔ M < 2 ^ k := by
  rw [Nat.div_eq_zero_iff]
  have := Nat.two_pow_pos k
  omega
theorem rz_p10 {B : Nat} (h : B ≤ 10) : 2 ^ B ≤ 1024 := Nat.pow_le_pow_right (n := 2) (by decide) h
/-! bitsOf on lN M: the number of bits -/
theorem rz_bl_s {M : Nat} (hM : M < 2 ^ 62) : ∀ (k i : Nat), k + i = 62 → (i = 0 ∨ 2 ^ (i - 1) ≤ M) → ∃ N, N ≤ 62 ∧ rz_bl k (lN M) (nI i) = nI N ∧ M < 2 ^ N ∧ (N = 0 ∨ 2 ^ (N - 1) ≤ M)
  | 0, i, h, hi => ⟨i, by omega, rfl, by rw [show i = 62 by omega]; exact hM, hi⟩
  | k + 1, i, h, hi => by
    unfold rz_bl
    rw [rz_shr hM (by omega)]
    have hd : M / 2 ^ i ≤ M := Nat.div_le_self _ _
    by_cases c : M < 2 ^ i
    · rw [if_pos ((rz_lz (by omega)).mpr (rz_div0.mpr c))]
      exact ⟨i, by omega, rfl, c, hi⟩
    · rw [if_neg (fun z => c (rz_div0.mp ((rz_lz (by omega)).mp z))), nI_1]
      exact rz_bl_s hM k (i + 1) (by omega) (Or.inr (by rw [Nat.add_sub_cancel]; omega))
theorem rz_bl_n {M : Nat} (hM : M < 2 ^ 62) : ∃ N, N ≤ 62 ∧ rz_bl 62 (lN M) 0 = nI N ∧ M < 2 ^ N ∧ (N = 0 ∨ 2 ^ (N - 1) ≤ M) := rz_bl_s hM 62 0 rfl (Or.inl rfl)
/-! the store loop on lN M: the odd part -/
theorem rz_st_s : ∀ (k M : Nat) (e : Int32), M < 2 ^ k → k ≤ 62 → ∃ O j, rz_st k (lN M) e = (lN O, e + nI j) ∧ M = O * 2 ^ j ∧ (M ≠ 0 → O % 2 = 1) ∧ j ≤ k
  | 0, M, e, h, _ => ⟨M, 0, by rw [nI_0, Int32.add_zero]; rfl, by simp, fun z => absurd h (by simp; omega), Nat.le_refl _⟩
  | k + 1, M, e, h, hk => by
    have hp : 2 ^ (k + 1) ≤ 2 ^ 62 := Nat.pow_le_pow_right (by decide) hk
    unfold rz_st
    by_cases c : M = 0
    · rw [if_pos ((rz_lz (by omega)).mpr c)]
      exact ⟨M, 0, by rw [nI_0, Int32.add_zero], by simp, fun z => absurd c z, by omega⟩
    · rw [if_neg (fun z => c ((rz_lz (by omega)).mp z)), wb_a1 (by omega)]
      by_cases d : M % 2 = 0
      · rw [if_pos ((rz_lz (by omega)).mpr d), show ((1 : Int32).toInt64 &&& 63) = ((nI 1).toInt64 &&& 63) from rfl, rz_shr (by omega) (by decide)]
        have h2 : M / 2 ^ 1 < 2 ^ k := by
          rw [Nat.pow_succ] at h
          omega
        obtain ⟨O, j, e1, e2, e3, e4⟩ := rz_st_s k (M / 2 ^ 1) (e + 1) h2 (by omega)
        refine ⟨O, j + 1, ?_, ?_, fun _ => e3 (by omega), by omega⟩
        · rw [e1, ← nI_1, Int32.add_assoc, Int32.add_comm 1]
        · rw [Nat.pow_succ, ← Nat.mul_assoc, ← e2]
          omega
      · rw [if_neg (fun z => d ((rz_lz (by omega)).mp z))]
        exact ⟨M, 0, by rw [nI_0, Int32.add_zero], by simp, fun _ => by omega, by omega⟩
theorem rz_sgN (neg : Int32) (O : Nat) : rz_sg neg (lN O) = if neg = 0 then nI O else -nI O := by
  unfold rz_sg
  rw [Int64.toInt32_neg, lN_i]
theorem rz_store_s {K : Nat} (hK : K < 2 ^ 62) (x : Int32) : ∃ O j, K = O * 2 ^ j ∧ (K ≠ 0 → O % 2 = 1) ∧ j ≤ 62 ∧ (∀ neg, rz_M neg (lN K) x = if neg = 0 then nI O else -nI O) ∧ rz_E (lN K) x = if O = 0 then 0 else x + nI j := by
  obtain ⟨O, j, e1, e2, e3, e4⟩ := rz_st_s 62 K x hK (Nat.le_refl _)
  have hO : O ≤ K := by
    rw [e2]
    exact Nat.le_mul_of_pos_right _ (Nat.two_pow_pos j)
  refine ⟨O, j, e2, e3, e4, fun neg => ?_, ?_⟩
  · unfold rz_M
    rw [e1]
    exact rz_sgN neg O
  · unfold rz_E
    rw [e1]
    show (if lN O = 0 then (0 : Int32) else x + nI j) = _
    by_cases c : O = 0
    · rw [if_pos ((rz_lz (by omega)).mpr c), if_pos c]
    · rw [if_neg (fun z => c ((rz_lz (by omega)).mp z)), if_neg c]
end
section
/-! a register that is representable with B bits: |m| < 2^B, exponent -12 or more, |m| * 2^e < 2^(B+11) -/
def rz_ok (B : Nat) (m e : Int32) : Prop := ∃ M D : Nat, (m = nI M ∨ m = -nI M) ∧ e.toInt = (D : Int) - 12 ∧ D ≤ 32 ∧ M < 2 ^ B ∧ M * 2 ^ D < 2 ^ (B + 23)
/-- what may be handed to store -/
def rz_pre (B : Nat) (K : Int64) (x : Int32) : Prop := ∃ k : Nat, K = lN k ∧ k ≤ 2 ^ B ∧ (k ≠ 0 → ∃ D : Nat, x.toInt = (D : Int) - 12 ∧ k * 2 ^ D < 2 ^ (B + 23))
theorem rz_ok0 {B : Nat} : rz_ok B 0 0 := ⟨0, 12, Or.inl rfl, by decide, by decide, Nat.two_pow_pos B, by rw [Nat.zero_mul]; exact Nat.two_pow_pos _⟩
theorem rz_ok_neg {B : Nat} {m e : Int32} (h : rz_ok B m e) : rz_ok B (-m) e := by
  obtain ⟨M, D, h1, h2⟩ := h
  refine ⟨M, D, ?_, h2⟩
  rcases h1 with h | h
  · exact Or.inr (by rw [h])
  · exact Or.inl (by rw [h, Int32.neg_neg])
theorem rz_plt {a b : Nat} (h : 2 ^ a < 2 ^ b) : a < b := (Nat.pow_lt_pow_iff_right (by decide)).mp h
theorem rz_ple {a b : Nat} (h : a ≤ b) : 2 ^ a ≤ 2 ^ b := Nat.pow_le_pow_right (by decide) h
theorem rz_pre_ok {B : Nat} {K : Int64} {x : Int32} (hB : 1 ≤ B) (hB' : B ≤ 10) (h : rz_pre B K x) (neg : Int32) : rz_ok B (rz_M neg K x) (rz_E K x) := by
  obtain ⟨k, rfl, hk, hD⟩ := h
  have h10 := rz_p10 hB'
  obtain ⟨O, j, e1, e2, e3, e4, e5⟩ := rz_store_s (K := k) (by omega) x
  have hm : rz_M neg (lN k) x = nI O ∨ rz_M neg (lN k) x = -nI O := by
    rw [e4]
    by_cases c : neg = 0
    · exact Or.inl (by rw [if_pos c])
    · exact Or.inr (by rw [if_neg c])
  by_cases c : k = 0
  · have hO : O = 0 := by
      rcases Nat.mul_eq_zero.mp (e1.symm.trans c) with h | h
      · exact h
      · exact absurd h (Nat.pos_iff_ne_zero.mp (Nat.two_pow_pos j))
    rw [e5, if_pos hO]
    subst hO
    exact ⟨0, 12, hm, by decide, by decide, Nat.two_pow_pos B, by rw [Nat.zero_mul]; exact Nat.two_pow_pos _⟩
  · have ho := e2 c
    obtain ⟨D, d1, d2⟩ := hD c
    have hOk : O ≤ k := by
      rw [e1]
      exact Nat.le_mul_of_pos_right _ (Nat.two_pow_pos j)
    have hOB : O < 2 ^ B := by
      obtain ⟨B', rfl⟩ : ∃ B', B = B' + 1 := ⟨B - 1, by omega⟩
      rw [Nat.pow_succ] at hk ⊢
      omega
    have hP : O * 2 ^ (D + j) < 2 ^ (B + 23) := by
      rw [e1, Nat.mul_assoc, ← Nat.pow_add, Nat.add_comm j D] at d2
      exact d2
    have hDj : D + j < B + 23 := by
      refine rz_plt (Nat.lt_of_le_of_lt ?_ hP)
      exact Nat.le_mul_of_pos_left _ (by omega)
    rw [e5, if_neg (by omega)]
    refine ⟨O, D + j, hm, ?_, by omega, hOB, hP⟩
    rw [rz_addT (by rw [nI_toInt (by omega), d1]; omega) (by rw [nI_toInt (by omega), d1]; omega), nI_toInt (by omega), d1]
    omega
/-! rounding leaves something storable -/
theorem rz_lim_pre {B : Nat} (hB' : B ≤ 10) : rz_pre B (rz_lim (nI B)).2.1 (rz_lim (nI B)).2.2 := by
  refine ⟨2 ^ B - 1, rz_fullN (by omega), Nat.sub_le _ _, fun _ => ⟨23, rfl, ?_⟩⟩
  have := Nat.two_pow_pos B
  rw [Nat.pow_add]
  exact Nat.mul_lt_mul_of_pos_right (by omega) (Nat.two_pow_pos _)
theorem rz_unit_pre {B k D : Nat} {u : Int32} (hk : k ≤ 2 ^ B) (hu : u.toInt = (D : Int) - 12) (hD : D ≤ 23) (h : D = 23 → k < 2 ^ B) : rz_pre B (lN k) u := by
  refine ⟨k, rfl, hk, fun _ => ⟨D, hu, ?_⟩⟩
  rw [Nat.pow_add]
  by_cases c : D = 23
  · rw [c]
    exact Nat.mul_lt_mul_of_pos_right (h c) (Nat.two_pow_pos _)
  · have h1 : 2 ^ D < 2 ^ 23 := Nat.pow_lt_pow_right (by decide) (by omega)
    exact Nat.lt_of_le_of_lt (Nat.mul_le_mul_right _ hk) (Nat.mul_lt_mul_of_pos_left h1 (Nat.two_pow_pos _))
theorem rz_139_pre {B k D : Nat} {md neg more u cut : Int32} {lost : Int64} (hB' : B ≤ 10) (hk : k < 2 ^ B) (hu : u.toInt = (D : Int) - 12) (hD : D ≤ 23) :
    rz_pre B (rz_R139 (nI B) md neg more u cut (lN k) lost).2.1 (rz_R139 (nI B) md neg more u cut (lN k) lost).2.2 := by
  have h10 := rz_p10 hB'
  have k167 : (D = 23 → ¬ k = 2 ^ B - 1) → rz_pre B (rz_R167 md neg more u cut (lN k) lost).2.1 (rz_R167 md neg more u cut (lN k) lost).2.2 := by
    intro h
    unfold rz_R167
    dsimp only
    by_cases g : rz_ga md neg (if (lN k &&& 1) = 0 then 0 else 1) lost cut more = 0
    · rw [if_pos g]
      exact rz_unit_pre (by omega) hu hD (fun _ => hk)
    · rw [if_neg g, lN_1]
      exact rz_unit_pre (by omega) hu hD (fun z => by have := h z; omega)
  unfold rz_R139
  by_cases c : u = 11
  · rw [if_pos c, rz_fullN (by omega)]
    by_cases d : k = 2 ^ B - 1
    · rw [if_pos (by rw [d])]
      exact rz_lim_pre hB'
    · rw [if_neg (fun z => d ((pk_lEQ (by omega) (by omega)).mp z))]
      exact k167 (fun _ => d)
  · rw [if_neg c]
    refine k167 (fun z => absurd ?_ c)
    rw [rz_eqT, hu, z]
    rfl
theorem rz_113_pre {B k D : Nat} {md neg more u cut : Int32} {lost : Int64} (hB' : B ≤ 10) (hk : k < 2 ^ B) (h : (k = 0 ∧ lost = 0 ∧ more = 0) ∨ (u.toInt = (D : Int) - 12 ∧ D ≤ 23)) :
    rz_pre B (rz_R113 (nI B) md neg more u cut (lN k) lost).2.1 (rz_R113 (nI B) md neg more u cut (lN k) lost).2.2 := by
  unfold rz_R113
  rcases h with ⟨h1, h2, h3⟩ | ⟨h1, h2⟩
  · rw [if_pos h2, if_pos h3]
    exact ⟨k, rfl, by omega, fun z => absurd h1 z⟩
  · have k139 := rz_139_pre (md := md) (neg := neg) (more := more) (cut := cut) (lost := lost) hB' hk h1 h2
    by_cases c : lost = 0
    · rw [if_pos c]
      by_cases d : more = 0
      · rw [if_pos d]
        exact rz_unit_pre (by omega) h1 h2 (fun _ => hk)
      · rw [if_neg d]
        exact k139
    · rw [if_neg c]
      exact k139
theorem rz_uT {B N : Nat} {e : Int32} (hB' : B ≤ 10) (hN : N ≤ 62) (he : -200 ≤ e.toInt) (he' : e.toInt ≤ 200) :
    (-12 ≤ (N : Int) + e.toInt - B ∧ (rz_u (nI B) (nI N) e).toInt = N + e.toInt - B) ∨ ((N : Int) + e.toInt - B < -12 ∧ (rz_u (nI B) (nI N) e).toInt = -12) := by
  have a1 : (nI N + e).toInt = N + e.toInt := by
    rw [rz_addT (by rw [nI_toInt (by omega)]; omega) (by rw [nI_toInt (by omega)]; omega), nI_toInt (by omega)]
  have a2 : (nI N + e - nI B).toInt = N + e.toInt - B := by
    rw [rz_subT (by rw [nI_toInt (by omega), a1]; omega) (by rw [nI_toInt (by omega), a1]; omega), nI_toInt (by omega), a1]
  have a3 : (-12 : Int32).toInt = -12 := rfl
  unfold rz_u
  by_cases c : (-12 : Int32) ≤ nI N + e - nI B
  · rw [if_pos c]
    rw [rz_leT, a2, a3] at c
    exact Or.inl ⟨c, a2⟩
  · rw [if_neg c]
    rw [rz_leT, a2, a3] at c
    exact Or.inr ⟨by omega, a3⟩
theorem rz_R_pre {B M : Nat} {md neg e more : Int32} (hB' : B ≤ 10) (hM : M < 2 ^ 60) (he : -200 ≤ e.toInt) (he' : e.toInt ≤ 200) (hmore : M = 0 → more = 0) :
    rz_pre B (rz_R (nI B) md neg (lN M) e more).2.1 (rz_R (nI B) md neg (lN M) e more).2.2 := by
  obtain ⟨N, n1, n2, n3, n4⟩ := rz_bl_n (M := M) (by omega)
  unfold rz_R
  rw [n2]
  have hu := rz_uT (e := e) hB' n1 he he'
  have hu1 : (-12 : Int) ≤ (rz_u (nI B) (nI N) e).toInt := by omega
  have hu2 : (N : Int) + e.toInt - B ≤ (rz_u (nI B) (nI N) e).toInt := by omega
  have hu3 : (rz_u (nI B) (nI N) e).toInt ≤ 300 := by omega
  generalize rz_u (nI B) (nI N) e = u at *
  clear hu
  have hcut : (u - e).toInt = u.toInt - e.toInt := rz_subT (by omega) (by omega)
  have k55 : (M = 0 ∨ u.toInt ≤ 11) → rz_pre B (rz_R55 (nI B) md neg (lN M) e more u).2.1 (rz_R55 (nI B) md neg (lN M) e more u).2.2 := by
    intro h11
    unfold rz_R55
    by_cases c : 0 < u - e
    · rw [if_pos c]
      rw [rz_ltT, hcut] at c
      have c0 : (0 : Int32).toInt = 0 := rfl
      rw [c0] at c
      obtain ⟨C, hC⟩ : ∃ C : Nat, u.toInt - e.toInt = C := ⟨(u.toInt - e.toInt).toNat, by omega⟩
      obtain ⟨D, hD⟩ : ∃ D : Nat, u.toInt = (D : Int) - 12 := ⟨(u.toInt + 12).toNat, by omega⟩
      by_cases d : u - e ≤ 60
      · rw [if_pos d]
        rw [rz_leT, hcut] at d
        have c60 : (60 : Int32).toInt = 60 := rfl
        rw [c60] at d
        have hkC : M / 2 ^ C < 2 ^ B := by
          rw [Nat.div_lt_iff_lt_mul (Nat.two_pow_pos _), ← Nat.pow_add]
          exact Nat.lt_of_lt_of_le n3 (rz_ple (by omega))
        have ecut : u - e = nI C := rz_nT (by rw [hcut, hC])
        rw [ecut, rz_shr (by omega) (by omega)]
        refine rz_113_pre (D := D) hB' hkC ?_
        rcases h11 with z | z
        · refine Or.inl ⟨by rw [z, Nat.zero_div], ?_, hmore z⟩
          rw [z, Nat.zero_div, rz_shl _ (by omega), lN_mul, Nat.zero_mul]
          rfl
        · exact Or.inr ⟨hD, by omega⟩
      · rw [if_neg d]
        refine rz_113_pre (k := 0) (D := D) hB' (Nat.two_pow_pos B) ?_
        rcases h11 with z | z
        · exact Or.inl ⟨rfl, by rw [z]; rfl, hmore z⟩
        · exact Or.inr ⟨hD, by omega⟩
    · rw [if_neg c]
      rw [rz_ltT, hcut] at c
      have c0 : (0 : Int32).toInt = 0 := rfl
      rw [c0] at c
      have hMB : M < 2 ^ B := Nat.lt_of_lt_of_le n3 (rz_ple (by omega))
      refine ⟨M, rfl, by omega, fun z => ⟨(e.toInt + 12).toNat, by show e.toInt = _; omega, ?_⟩⟩
      have hle : N + (e.toInt + 12).toNat ≤ B + 23 := by omega
      refine Nat.lt_of_lt_of_le (Nat.mul_lt_mul_of_pos_right n3 (Nat.two_pow_pos _)) ?_
      rw [← Nat.pow_add]
      exact rz_ple hle
  unfold rz_R33
  by_cases c : M = 0
  · rw [if_pos ((rz_lz (by omega)).mpr c)]
    exact k55 (Or.inl c)
  · rw [if_neg (fun z => c ((rz_lz (by omega)).mp z))]
    by_cases d : u ≤ 11
    · rw [if_pos d]
      rw [rz_leT] at d
      exact k55 (Or.inr d)
    · rw [if_neg d]
      exact rz_lim_pre hB'
end
section
/-! next leaves something storable -/
theorem rz_wh_s {B M D : Nat} {e : Int32} (hB' : B ≤ 10) (he : e.toInt = (D : Int) - 12) (hD : D ≤ 32) (hM : M < 2 ^ B) (hP : M * 2 ^ D < 2 ^ (B + 23)) :
    ∃ W U : Nat, rz_wh (nI B) (lN M) e = lN W ∧ (rz_nu (nI B) (lN M) e).toInt = (U : Int) - 12 ∧ U ≤ 23 ∧ W < 2 ^ B ∧ (M ≠ 0 → 1 ≤ W) := by
  have h10 := rz_p10 hB'
  by_cases c : M = 0
  · have hu : rz_nu (nI B) (lN M) e = -12 := by
      unfold rz_nu
      rw [if_pos ((rz_lz (by omega)).mpr c)]
    refine ⟨0, 0, ?_, by rw [hu]; rfl, by decide, Nat.two_pow_pos B, fun z => absurd c z⟩
    unfold rz_wh
    rw [if_pos ((rz_lz (by omega)).mpr c), c, rz_sh_mul (lN 0) (c := 0) (k := 0) rfl (by decide), lN_mul, Nat.zero_mul]
  · obtain ⟨N, n1, n2, n3, n4⟩ := rz_bl_n (M := M) (by omega)
    have hM0 : ¬ lN M = 0 := fun z => c ((rz_lz (by omega)).mp z)
    have eu : rz_nu (nI B) (lN M) e = rz_u (nI B) (nI N) e := by
      unfold rz_nu
      rw [if_neg hM0, n2]
    have hN : N ≠ 0 := by
      intro z
      rw [z] at n3
      omega
    have n5 : 2 ^ (N - 1) ≤ M := by
      rcases n4 with z | z
      · exact absurd z hN
      · exact z
    have b1 : N - 1 < B := rz_plt (Nat.lt_of_le_of_lt n5 hM)
    have b2 : N - 1 + D < B + 23 := by
      refine rz_plt (Nat.lt_of_le_of_lt ?_ hP)
      rw [Nat.pow_add]
      exact Nat.mul_le_mul_right _ n5
    have hu := rz_uT (e := e) hB' n1 (by omega) (by omega)
    unfold rz_wh
    rw [if_neg hM0, eu]
    generalize rz_u (nI B) (nI N) e = u at *
    obtain ⟨S, hS⟩ : ∃ S : Nat, e.toInt - u.toInt = S := ⟨(e.toInt - u.toInt).toNat, by omega⟩
    obtain ⟨U, hU⟩ : ∃ U : Nat, u.toInt = (U : Int) - 12 := ⟨(u.toInt + 12).toNat, by omega⟩
    have hs : (e - u).toInt = S := by
      rw [rz_subT (by omega) (by omega), hS]
    have hNS : N + S ≤ B := by omega
    refine ⟨M * 2 ^ S, U, ?_, hU, by omega, ?_, fun _ => ?_⟩
    · rw [rz_sh_mul _ hs (by omega), lN_mul]
    · refine Nat.lt_of_lt_of_le (Nat.mul_lt_mul_of_pos_right n3 (Nat.two_pow_pos _)) ?_
      rw [← Nat.pow_add]
      exact rz_ple hNS
    · exact Nat.mul_pos (by omega) (Nat.two_pow_pos _)
theorem rz_N_pre {B M D : Nat} {e out : Int32} (hB' : B ≤ 10) (he : e.toInt = (D : Int) - 12) (hD : D ≤ 32) (hM : M < 2 ^ B) (hP : M * 2 ^ D < 2 ^ (B + 23)) (ho : M = 0 → ¬ out = 0) :
    ∀ x, rz_N (nI B) out (rz_nu (nI B) (lN M) e) (rz_wh (nI B) (lN M) e) = some x → rz_pre B x.1 x.2 := by
  have h10 := rz_p10 hB'
  obtain ⟨W, U, w1, w2, w3, w4, w5⟩ := rz_wh_s hB' he hD hM hP
  rw [w1]
  generalize rz_nu (nI B) (lN M) e = u at *
  have a12 : (-12 : Int32).toInt = -12 := rfl
  have a11 : (11 : Int32).toInt = 11 := rfl
  have a1 : (1 : Int32).toInt = 1 := rfl
  intro x hx
  unfold rz_N at hx
  by_cases c : out = 0
  · have hW : 1 ≤ W := w5 (fun z => ho z c)
    have km : rz_pre B (lN W - 1) u := by
      rw [rz_l1, lN_sub hW]
      exact rz_unit_pre (by omega) w2 w3 (fun _ => by omega)
    rw [if_pos c] at hx
    by_cases d : lN W = ((1 : Int64) <<< ((nI B - 1).toInt64 &&& 63))
    · rw [if_pos d] at hx
      by_cases g : u ≤ (-12)
      · rw [if_pos g] at hx
        rw [← Option.some.inj hx]
        exact km
      · rw [if_neg g] at hx
        rw [← Option.some.inj hx]
        rw [rz_leT, a12, w2] at g
        show rz_pre B (rz_full (nI B)) (u - 1)
        rw [rz_fullN (by omega)]
        refine rz_unit_pre (D := U - 1) (by omega) ?_ (by omega) (fun _ => by omega)
        rw [rz_subT (by rw [a1]; omega) (by rw [a1]; omega), a1]
        omega
    · rw [if_neg d] at hx
      rw [← Option.some.inj hx]
      exact km
  · rw [if_neg c] at hx
    have kp : (U = 23 → ¬ W = 2 ^ B - 1) → rz_pre B (lN W + 1) u := by
      intro h
      rw [lN_1]
      exact rz_unit_pre (by omega) w2 w3 (fun z => by have := h z; omega)
    by_cases d : u = 11
    · rw [if_pos d, rz_fullN (by omega)] at hx
      by_cases g : W = 2 ^ B - 1
      · rw [if_pos (by rw [g])] at hx
        exact absurd hx (by simp)
      · rw [if_neg (fun z => g ((pk_lEQ (by omega) (by omega)).mp z))] at hx
        rw [← Option.some.inj hx]
        exact kp (fun _ => g)
    · rw [if_neg d] at hx
      rw [← Option.some.inj hx]
      refine kp (fun z => absurd ?_ d)
      rw [rz_eqT, w2, z]
      rfl
/-! the mirror: modes 1 and 2 change places, the sign is turned -/
def rz_mir (md : Int32) : Int32 := if md = 1 then 2 else if md = 2 then 1 else md
def rz_fl (n n' : Int32) : Prop := (n = 0 ∧ n' = 1) ∨ (n = 1 ∧ n' = 0)
theorem rz_M_flip {n n' : Int32} (h : rz_fl n n') (K : Int64) (x : Int32) : rz_M n' K x = -rz_M n K x := by
  unfold rz_M rz_sg
  rcases h with ⟨h1, h2⟩ | ⟨h1, h2⟩
  · rw [h1, h2, if_neg rz_10, if_pos rfl, Int64.toInt32_neg]
  · rw [h1, h2, if_neg rz_10, if_pos rfl, Int64.toInt32_neg, Int32.neg_neg]
theorem rz_ga_flip {n n' : Int32} (h : rz_fl n n') (md odd : Int32) (lost : Int64) (cut more : Int32) : rz_ga (rz_mir md) n' odd lost cut more = rz_ga md n odd lost cut more := by
  unfold rz_mir
  by_cases c1 : md = 1
  · rw [if_pos c1, c1]
    unfold rz_ga rz_ga5
    rcases h with ⟨h1, h2⟩ | ⟨h1, h2⟩
    · rw [h1, h2]
      rfl
    · rw [h1, h2]
      rfl
  · rw [if_neg c1]
    by_cases c2 : md = 2
    · rw [if_pos c2, c2]
      unfold rz_ga rz_ga5
      rcases h with ⟨h1, h2⟩ | ⟨h1, h2⟩
      · rw [h1, h2]
        rfl
      · rw [h1, h2]
        rfl
    · rw [if_neg c2]
      unfold rz_ga rz_ga5
      rw [if_neg c2, if_neg c2, if_neg c1, if_neg c1]
theorem rz_R_flip {n n' : Int32} (h : rz_fl n n') (b md : Int32) (m : Int64) (e more : Int32) : rz_R b (rz_mir md) n' m e more = rz_R b md n m e more := by
  unfold rz_R rz_R33 rz_R55 rz_R113 rz_R139 rz_R167
  simp only [rz_ga_flip h]
theorem rz_R_zero (b e : Int32) : ∃ X, ∀ md n, rz_R b md n 0 e 0 = (0, 0, X) := by
  refine ⟨if 0 < rz_u b (rz_bl 62 0 0) e - e then rz_u b (rz_bl 62 0 0) e else e, fun md n => ?_⟩
  unfold rz_R rz_R33
  generalize rz_u b (rz_bl 62 0 0) e = u
  rw [if_pos rfl]
  unfold rz_R55
  by_cases c : 0 < u - e
  · rw [if_pos c, if_pos c]
    by_cases d : u - e ≤ 60
    · rw [if_pos d]
      unfold rz_R113
      rw [Int64.zero_shiftRight, Int64.zero_shiftLeft, if_pos (by rfl), if_pos rfl]
    · rw [if_neg d]
      unfold rz_R113
      rw [if_pos rfl, if_pos rfl]
  · rw [if_neg c, if_neg c]
theorem rz_M0 (n x : Int32) : rz_M n 0 x = 0 := by
  have h : rz_st 62 0 x = (0, x) := by
    unfold rz_st
    rw [if_pos rfl]
  unfold rz_M rz_sg
  rw [h]
  by_cases c : n = 0
  · rw [if_pos c]
    rfl
  · rw [if_neg c]
    show (-(0 : Int64)).toInt32 = 0
    decide
/-! signs and sizes of longs -/
theorem rz_negT {x : Int64} (h1 : -9223372036854775808 < x.toInt) : (-x).toInt = -x.toInt := by
  have h2 := x.toInt_lt
  rw [Int64.toInt_neg]
  exact Int.bmod_eq_of_le (by omega) (by omega)
theorem rz_z64 : (0 : Int64).toInt = 0 := rfl
theorem rz_sz_s {x : Int64} (h1 : -1152921504606846976 < x.toInt) (h2 : x.toInt < 1152921504606846976) :
    ∃ M : Nat, M < 2 ^ 60 ∧ rz_sz x = lN M ∧ rz_sz (-x) = lN M ∧ (M = 0 → x = 0) ∧ (x ≠ 0 → rz_fl (rz_ng x) (rz_ng (-x))) := by
  have hn := rz_negT (x := x) (by omega)
  refine ⟨x.toInt.natAbs, by omega, ?_, ?_, fun z => ?_, fun z => ?_⟩
  · apply Int64.toInt_inj.mp
    rw [pk_lT (by omega)]
    unfold rz_sz
    by_cases c : 0 ≤ x
    · rw [if_pos c]
      rw [Int64.le_iff_toInt_le, rz_z64] at c
      omega
    · rw [if_neg c]
      rw [Int64.le_iff_toInt_le, rz_z64] at c
      omega
  · apply Int64.toInt_inj.mp
    rw [pk_lT (by omega)]
    unfold rz_sz
    by_cases c : 0 ≤ -x
    · rw [if_pos c]
      rw [Int64.le_iff_toInt_le, rz_z64] at c
      omega
    · rw [if_neg c, Int64.neg_neg]
      rw [Int64.le_iff_toInt_le, rz_z64] at c
      omega
  · apply Int64.toInt_inj.mp
    rw [rz_z64]
    omega
  · have hx : x.toInt ≠ 0 := fun g => z (Int64.toInt_inj.mp (by rw [g, rz_z64]))
    unfold rz_ng rz_fl
    by_cases c : 0 ≤ x
    · have d : ¬ 0 ≤ -x := by
        rw [Int64.le_iff_toInt_le, rz_z64] at c ⊢
        omega
      rw [if_pos c, if_neg d]
      exact Or.inl ⟨rfl, rfl⟩
    · have d : 0 ≤ -x := by
        rw [Int64.le_iff_toInt_le, rz_z64] at c ⊢
        omega
      rw [if_neg c, if_pos d]
      exact Or.inr ⟨rfl, rfl⟩
/-! a rounded value and its mirror -/
def rz_two (B : Nat) (n n' : Int32) (t t' : Int32 × Int64 × Int32) : Prop :=
  t' = t ∧ rz_M n' t.2.1 t.2.2 = -rz_M n t.2.1 t.2.2 ∧ rz_ok B (rz_M n t.2.1 t.2.2) (rz_E t.2.1 t.2.2)
theorem rz_ex2 {B : Nat} (hB : 1 ≤ B) (hB' : B ≤ 10) {T T' : Int64} (hT : T' = -T) (h1 : -1152921504606846976 < T.toInt) (h2 : T.toInt < 1152921504606846976) {e : Int32} (he : -200 ≤ e.toInt) (he' : e.toInt ≤ 200) (md : Int32) :
    rz_two B (rz_ng T) (rz_ng T') (rz_R (nI B) md (rz_ng T) (rz_sz T) e 0) (rz_R (nI B) (rz_mir md) (rz_ng T') (rz_sz T') e 0) := by
  subst hT
  obtain ⟨M, m1, m2, m3, m4, m5⟩ := rz_sz_s h1 h2
  have hp := fun md n => rz_R_pre (B := B) (M := M) (md := md) (neg := n) (e := e) (more := 0) hB' m1 he he' (fun _ => rfl)
  refine ⟨?_, ?_, ?_⟩
  · by_cases c : T = 0
    · obtain ⟨X, hX⟩ := rz_R_zero (nI B) e
      rw [c, show rz_sz (-0) = 0 from rfl, show rz_sz 0 = 0 from rfl, hX, hX]
    · rw [m2, m3]
      exact rz_R_flip (m5 c) _ _ _ _ _
  · by_cases c : T = 0
    · obtain ⟨X, hX⟩ := rz_R_zero (nI B) e
      rw [c, show rz_sz 0 = 0 from rfl, hX]
      show rz_M _ 0 X = -rz_M _ 0 X
      rw [rz_M0, rz_M0]
      rfl
    · exact rz_M_flip (m5 c) _ _
  · rw [m2]
    exact rz_pre_ok hB hB' (hp _ _) _
end
section
/-! mantissas as longs -/
theorem rz_ok64 {B : Nat} {m e : Int32} (hB' : B ≤ 10) (h : rz_ok B m e) : (-m).toInt64 = -m.toInt64 ∧ -1024 < m.toInt64.toInt ∧ m.toInt64.toInt < 1024 ∧ -12 ≤ e.toInt ∧ e.toInt ≤ 20 := by
  obtain ⟨M, D, h1, h2, h3, h4, h5⟩ := h
  have h10 := rz_p10 hB'
  have hm : -1024 < m.toInt ∧ m.toInt < 1024 := by
    rcases h1 with h | h
    · rw [h, nI_toInt (by omega)]
      omega
    · rw [h, sb_negT (by omega)]
      omega
  have e1 : m.toInt64.toInt = m.toInt := Int32.toInt_toInt64 m
  refine ⟨?_, by rw [e1]; exact hm.1, by rw [e1]; exact hm.2, by omega, by omega⟩
  apply Int64.toInt_inj.mp
  rw [rz_negT (by omega), Int32.toInt_toInt64, e1, Int32.toInt_neg]
  exact Int.bmod_eq_of_le (by omega) (by omega)
theorem rz_sh_neg (x : Int64) {c : Int32} {S : Nat} (hc : c.toInt = S) (hS : S < 64) : rz_sh (-x) c = -rz_sh x c := by
  rw [rz_sh_mul _ hc hS, rz_sh_mul _ hc hS, Int64.neg_mul]
theorem rz_shT {x : Int64} {c : Int32} {S : Nat} (hc : c.toInt = S) (hS : S ≤ 32) (h1 : -1024 < x.toInt) (h2 : x.toInt < 1024) :
    -4398046511104 ≤ (rz_sh x c).toInt ∧ (rz_sh x c).toInt ≤ 4398046511104 := by
  have hp : 2 ^ S ≤ 2 ^ 32 := rz_ple hS
  rw [rz_sh_mul _ hc (by omega), Int64.toInt_mul, pk_lT (by omega)]
  generalize 2 ^ S = p at *
  have a1 : x.toInt * (p : Int) ≤ 1024 * (p : Int) := Int.mul_le_mul_of_nonneg_right (by omega) (by omega)
  have a2 : (-1024) * (p : Int) ≤ x.toInt * (p : Int) := Int.mul_le_mul_of_nonneg_right (by omega) (by omega)
  generalize x.toInt * (p : Int) = q at *
  rw [Int.bmod_eq_of_le (by omega) (by omega)]
  omega
theorem rz_lowT (e f : Int32) : (rz_low e f).toInt ≤ e.toInt ∧ (rz_low e f).toInt ≤ f.toInt ∧ ((rz_low e f).toInt = e.toInt ∨ (rz_low e f).toInt = f.toInt) := by
  unfold rz_low
  by_cases c : f ≤ e
  · rw [if_pos c]
    rw [rz_leT] at c
    omega
  · rw [if_neg c]
    rw [rz_leT] at c
    omega
theorem rz_low_comm (e f : Int32) : rz_low e f = rz_low f e := by
  rw [rz_eqT]
  have h1 := rz_lowT e f
  have h2 := rz_lowT f e
  omega
theorem rz_gap {e f : Int32} (h1 : -12 ≤ e.toInt) (h2 : e.toInt ≤ 20) (h3 : -12 ≤ f.toInt) (h4 : f.toInt ≤ 20) :
    ∃ S S' : Nat, S ≤ 32 ∧ S' ≤ 32 ∧ (e - rz_low e f).toInt = S ∧ (f - rz_low e f).toInt = S' := by
  have h := rz_lowT e f
  refine ⟨(e.toInt - (rz_low e f).toInt).toNat, (f.toInt - (rz_low e f).toInt).toNat, by omega, by omega, ?_, ?_⟩
  · rw [rz_subT (by omega) (by omega)]
    omega
  · rw [rz_subT (by omega) (by omega)]
    omega
/-- a sum and the sum of the mirrors -/
theorem rz_tot2 {x y x' y' : Int64} {e f : Int32} (hx : x' = -x) (hy : y' = -y) (a1 : -1024 < x.toInt) (a2 : x.toInt < 1024) (b1 : -1024 < y.toInt) (b2 : y.toInt < 1024)
    (h1 : -12 ≤ e.toInt) (h2 : e.toInt ≤ 20) (h3 : -12 ≤ f.toInt) (h4 : f.toInt ≤ 20) :
    rz_tot x' e y' f = -rz_tot x e y f ∧ -1152921504606846976 < (rz_tot x e y f).toInt ∧ (rz_tot x e y f).toInt < 1152921504606846976 := by
  obtain ⟨S, S', s1, s2, s3, s4⟩ := rz_gap h1 h2 h3 h4
  have t1 := rz_shT (x := x) s3 s1 a1 a2
  have t2 := rz_shT (x := y) s4 s2 b1 b2
  subst hx
  subst hy
  refine ⟨?_, ?_⟩
  · unfold rz_tot
    rw [rz_sh_neg x s3 (by omega), rz_sh_neg y s4 (by omega), Int64.neg_add, Int64.sub_eq_add_neg]
  · unfold rz_tot
    rw [Int64.toInt_add, Int.bmod_eq_of_le (by omega) (by omega)]
    omega
/-- compare and the compare of the mirrors -/
theorem rz_cmp2 {x y x' y' : Int64} {e f : Int32} (hx : x' = -x) (hy : y' = -y) (a1 : -1024 < x.toInt) (a2 : x.toInt < 1024) (b1 : -1024 < y.toInt) (b2 : y.toInt < 1024)
    (h1 : -12 ≤ e.toInt) (h2 : e.toInt ≤ 20) (h3 : -12 ≤ f.toInt) (h4 : f.toInt ≤ 20) :
    rz_cmp (rz_sh x (e - rz_low e f)) (rz_sh y (f - rz_low e f)) = rz_cmp (rz_sh y' (f - rz_low f e)) (rz_sh x' (e - rz_low f e)) := by
  obtain ⟨S, S', s1, s2, s3, s4⟩ := rz_gap h1 h2 h3 h4
  have t1 := rz_shT (x := x) s3 s1 a1 a2
  have t2 := rz_shT (x := y) s4 s2 b1 b2
  subst hx
  subst hy
  rw [rz_low_comm f e, rz_sh_neg x s3 (by omega), rz_sh_neg y s4 (by omega)]
  generalize rz_sh x (e - rz_low e f) = p at *
  generalize rz_sh y (f - rz_low e f) = q at *
  have np := rz_negT (x := p) (by omega)
  have nq := rz_negT (x := q) (by omega)
  unfold rz_cmp
  by_cases c : p = q
  · rw [if_pos c, if_pos (by rw [c])]
  · have c' : ¬ -q = -p := fun z => c (Int64.neg_inj.mp z).symm
    rw [if_neg c, if_neg c']
    by_cases d : q ≤ p
    · have d' : -p ≤ -q := by
        rw [Int64.le_iff_toInt_le] at d ⊢
        omega
      rw [if_pos d, if_pos d']
    · have d' : ¬ -p ≤ -q := by
        rw [Int64.le_iff_toInt_le] at d ⊢
        omega
      rw [if_neg d, if_neg d']
/-- a product and the product of the mirror -/
theorem rz_mul2 {x y x' : Int64} (hx : x' = -x) (a1 : -1024 < x.toInt) (a2 : x.toInt < 1024) (b1 : -1024 < y.toInt) (b2 : y.toInt < 1024) :
    x' * y = -(x * y) ∧ -1152921504606846976 < (x * y).toInt ∧ (x * y).toInt < 1152921504606846976 := by
  subst hx
  refine ⟨Int64.neg_mul _ _, ?_⟩
  have h : -1048576 ≤ x.toInt * y.toInt ∧ x.toInt * y.toInt ≤ 1048576 := by
    have g : (x.toInt * y.toInt).natAbs ≤ 1024 * 1024 := by
      rw [Int.natAbs_mul]
      exact Nat.mul_le_mul (by omega) (by omega)
    omega
  rw [Int64.toInt_mul]
  generalize x.toInt * y.toInt = q at *
  rw [Int.bmod_eq_of_le (by omega) (by omega)]
  omega
/-! division -/
theorem rz_fl_n0 {x : Int32} (h1 : -1024 < x.toInt) (h2 : x.toInt < 1024) (h : x ≠ 0) : rz_fl (rz_n0 x) (rz_n0 (-x)) := by
  have hn : (-x).toInt = -x.toInt := by
    rw [Int32.toInt_neg]
    exact Int.bmod_eq_of_le (by omega) (by omega)
  have z : (0 : Int32).toInt = 0 := rfl
  have hx : x.toInt ≠ 0 := fun g => h (by rw [rz_eqT, g, z])
  unfold rz_n0 rz_fl
  by_cases c : 0 ≤ x
  · have d : ¬ 0 ≤ -x := by
      rw [rz_leT, z] at c ⊢
      omega
    rw [if_pos c, if_neg d]
    exact Or.inl ⟨rfl, rfl⟩
  · have d : 0 ≤ -x := by
      rw [rz_leT, z] at c ⊢
      omega
    rw [if_neg c, if_pos d]
    exact Or.inr ⟨rfl, rfl⟩
theorem rz_n0_01 (x : Int32) : rz_n0 x = 0 ∨ rz_n0 x = 1 := by
  unfold rz_n0
  by_cases c : 0 ≤ x
  · exact Or.inl (if_pos c)
  · exact Or.inr (if_neg c)
theorem rz_fl_nx {x y : Int32} (h1 : -1024 < x.toInt) (h2 : x.toInt < 1024) (h : x ≠ 0) : rz_fl (rz_nx x y) (rz_nx (-x) y) := by
  unfold rz_nx
  have h01 : ¬ (0 : Int32) = 1 := by decide
  rcases rz_fl_n0 h1 h2 h with ⟨p, q⟩ | ⟨p, q⟩ <;> rcases rz_n0_01 y with g | g <;> rw [p, q, g]
  · rw [if_pos rfl, if_neg rz_10]
    exact Or.inl ⟨rfl, rfl⟩
  · rw [if_neg h01, if_pos rfl]
    exact Or.inr ⟨rfl, rfl⟩
  · rw [if_neg rz_10, if_pos rfl]
    exact Or.inr ⟨rfl, rfl⟩
  · rw [if_pos rfl, if_neg h01]
    exact Or.inl ⟨rfl, rfl⟩
theorem rz_ok_sz {B : Nat} {m e : Int32} (hB' : B ≤ 10) (h : rz_ok B m e) : ∃ M D : Nat, rz_sz m.toInt64 = lN M ∧ rz_sz (-m).toInt64 = lN M ∧ (M = 0 → m = 0) ∧ e.toInt = (D : Int) - 12 ∧ D ≤ 32 ∧ M < 2 ^ B ∧ M * 2 ^ D < 2 ^ (B + 23) := by
  obtain ⟨k1, k2, k3, _⟩ := rz_ok64 hB' h
  obtain ⟨M, D, h1, h2, h3, h4, h5⟩ := h
  have h10 := rz_p10 hB'
  have hz : (0 : Int64) ≤ lN M := by
    rw [rz_l0, pk_lLE (by decide) (by omega)]
    omega
  have sp : rz_sz (lN M) = lN M := by
    unfold rz_sz
    rw [if_pos hz]
  have sn : rz_sz (-lN M) = lN M := by
    by_cases c : M = 0
    · rw [c]
      rfl
    · have d : ¬ 0 ≤ -lN M := by
        rw [Int64.le_iff_toInt_le, rz_z64, rz_negT (by rw [pk_lT (by omega)]; omega), pk_lT (by omega)]
        omega
      unfold rz_sz
      rw [if_neg d, Int64.neg_neg]
  refine ⟨M, D, ?_, ?_, ?_, h2, h3, h4, h5⟩
  · rcases h1 with h | h
    · rw [h, nI_l (by omega), sp]
    · rw [h] at k1 ⊢
      rw [Int32.neg_neg, nI_l (by omega)] at k1
      rw [show (-nI M).toInt64 = -lN M by rw [k1, Int64.neg_neg], sn]
  · rw [k1]
    rcases h1 with h | h
    · rw [h, nI_l (by omega), sn]
    · rw [h] at k1 ⊢
      rw [← k1, Int32.neg_neg, nI_l (by omega), sp]
  · intro z
    rw [z] at h1
    rcases h1 with h | h
    · exact h
    · rw [h]
      rfl
theorem rz_div2 {B : Nat} (hB : 1 ≤ B) (hB' : B ≤ 10) {x e y f : Int32} (ox : rz_ok B x e) (oy : rz_ok B y f) {d p : Int64} (hd : d = rz_sz y.toInt64) (hp : p = rz_sh (rz_sz x.toInt64) 40) (h0 : ¬ d = 0) (md : Int32) :
    rz_two B (rz_nx x y) (rz_nx (-x) y) (rz_R (nI B) md (rz_nx x y) (p / d) (e - f - 40) (rz_mo p d)) (rz_R (nI B) (rz_mir md) (rz_nx (-x) y) (p / d) (e - f - 40) (rz_mo p d)) := by
  have h10 := rz_p10 hB'
  obtain ⟨M, D, m1, _, m3, m4, m5, m6, _⟩ := rz_ok_sz hB' ox
  obtain ⟨M', D', n1, _, n3, n4, n5, n6, _⟩ := rz_ok_sz hB' oy
  obtain ⟨_, k2, k3, _⟩ := rz_ok64 hB' ox
  rw [Int32.toInt_toInt64] at k2 k3
  rw [n1] at hd
  rw [m1, rz_sh_mul _ (c := 40) (k := 40) rfl (by decide), lN_mul] at hp
  have hM' : M' ≠ 0 := fun z => h0 (by rw [hd, z]; rfl)
  have hq : p / d = lN (M * 2 ^ 40 / M') := by
    rw [hd, hp, pk_lDiv (by omega) (by omega) (by omega)]
  have hQ : M * 2 ^ 40 / M' ≤ M * 2 ^ 40 := Nat.div_le_self _ _
  have hmo : M = 0 → rz_mo p d = 0 := by
    intro z
    unfold rz_mo
    rw [hq, hp, hd, z, Nat.zero_mul, Nat.zero_div, lN_mul, Nat.zero_mul, if_pos rfl]
  have hM0 : M * 2 ^ 40 / M' = 0 → M = 0 := by
    intro z
    rw [Nat.div_eq_zero_iff] at z
    omega
  have c40 : (40 : Int32).toInt = 40 := rfl
  have e1 : (e - f).toInt = e.toInt - f.toInt := rz_subT (by omega) (by omega)
  have e2 : (e - f - 40).toInt = e.toInt - f.toInt - 40 := by
    rw [rz_subT (by omega) (by omega), e1, c40]
  rw [hq]
  have hpre := fun n => rz_R_pre (B := B) (M := M * 2 ^ 40 / M') (md := md) (neg := n) (e := e - f - 40) (more := rz_mo p d) hB' (by omega) (by omega) (by omega) (fun z => hmo (hM0 z))
  by_cases c : M = 0
  · obtain ⟨X, hX⟩ := rz_R_zero (nI B) (e - f - 40)
    have hpre0 := hpre (rz_nx x y)
    rw [hmo c, c, Nat.zero_mul, Nat.zero_div, ← rz_l0] at hpre0 ⊢
    rw [hX] at hpre0 ⊢
    rw [hX]
    refine ⟨rfl, ?_, rz_pre_ok hB hB' hpre0 _⟩
    show rz_M _ 0 X = -rz_M _ 0 X
    rw [rz_M0, rz_M0]
    rfl
  · have hx : x ≠ 0 := by
      intro z
      rw [z] at m1
      exact c ((rz_lz (by omega)).mp m1.symm)
    have hf := rz_fl_nx (y := y) k2 k3 hx
    exact ⟨rz_R_flip hf _ _ _ _ _, rz_M_flip hf _ _, rz_pre_ok hB hB' (hpre _) _⟩
/-! next -/
theorem rz_next2 {B : Nat} (hB : 1 ≤ B) (hB' : B ≤ 10) {x e up up' : Int32} (ox : rz_ok B x e) {m : Int64} (hm : m = rz_sz x.toInt64) (hu : rz_fl up up') :
    rz_sz (-x).toInt64 = m ∧ rz_fl (rz_nn m x up) (rz_nn m (-x) up') ∧ rz_ou (rz_nn m x up) up = rz_ou (rz_nn m (-x) up') up' ∧
    (∀ t, rz_N (nI B) (rz_ou (rz_nn m x up) up) (rz_nu (nI B) m e) (rz_wh (nI B) m e) = some t → rz_ok B (rz_M (rz_nn m x up) t.1 t.2) (rz_E t.1 t.2)) := by
  have h10 := rz_p10 hB'
  obtain ⟨M, D, m1, m2, m3, m4, m5, m6, m7⟩ := rz_ok_sz hB' ox
  obtain ⟨_, k2, k3, _⟩ := rz_ok64 hB' ox
  rw [Int32.toInt_toInt64] at k2 k3
  rw [m1] at hm
  have h01 : ¬ (0 : Int32) = 1 := by decide
  have hfl : rz_fl (rz_nn m x up) (rz_nn m (-x) up') := by
    unfold rz_nn
    by_cases c : m = 0
    · rw [if_pos c, if_pos c]
      rcases hu with ⟨p, q⟩ | ⟨p, q⟩
      · rw [p, q, if_pos rfl, if_neg rz_10]
        exact Or.inr ⟨rfl, rfl⟩
      · rw [p, q, if_pos rfl, if_neg rz_10]
        exact Or.inl ⟨rfl, rfl⟩
    · rw [if_neg c, if_neg c]
      refine rz_fl_n0 k2 k3 (fun z => c ?_)
      rw [hm, ← m1, z]
      rfl
  refine ⟨by rw [m2, hm], hfl, ?_, ?_⟩
  · unfold rz_ou
    rcases hfl with ⟨p, q⟩ | ⟨p, q⟩ <;> rcases hu with ⟨p', q'⟩ | ⟨p', q'⟩ <;> rw [p, q, p', q']
    · rw [if_pos rfl, if_pos rfl]
    · rw [if_neg h01, if_neg rz_10]
    · rw [if_neg h01, if_neg rz_10]
    · rw [if_pos rfl, if_pos rfl]
  · intro t ht
    rw [hm] at ht
    have hout : M = 0 → ¬ rz_ou (rz_nn (lN M) x up) up = 0 := by
      intro z
      unfold rz_nn rz_ou
      rw [if_pos ((rz_lz (by omega)).mpr z)]
      rcases hu with ⟨p, q⟩ | ⟨p, q⟩
      · rw [p, if_pos rfl, if_neg rz_10]
        exact rz_10
      · rw [p, if_neg rz_10, if_neg h01]
        exact rz_10
    exact rz_pre_ok hB hB' (rz_N_pre hB' m4 m5 m6 m7 hout t ht) _
end
section
/-! the two objects' registers: mirror images but for register 2, which is the same in both -/
def rz_J (B : Nat) (a1 a2 a4 a5 : Nat → Int32) : Prop :=
  3 ≤ B ∧ B ≤ 10 ∧ (∀ r, r < 4 → rz_ok B (a1 r) (a2 r)) ∧ (∀ r, r < 4 → a5 r = a2 r) ∧ (∀ r, r < 4 → r ≠ 2 → a4 r = -a1 r) ∧ a4 2 = a1 2
theorem rz_J_put {B : Nat} {a1 a2 a4 a5 : Nat → Int32} (J : rz_J B a1 a2 a4 a5) {r : Nat} (h2 : r ≠ 2) {x x' y : Int32} (hx : x' = -x) (ok : rz_ok B x y) : rz_J B (upd a1 r x) (upd a2 r y) (upd a4 r x') (upd a5 r y) := by
  obtain ⟨j1, j2, j3, j4, j5, j6⟩ := J
  refine ⟨j1, j2, fun s hs => ?_, fun s hs => ?_, fun s hs hs2 => ?_, ?_⟩
  · by_cases c : s = r
    · rw [c, pk_us, pk_us]
      exact ok
    · rw [pk_un c, pk_un c]
      exact j3 s hs
  · by_cases c : s = r
    · rw [c, pk_us, pk_us]
    · rw [pk_un c, pk_un c]
      exact j4 s hs
  · by_cases c : s = r
    · rw [c, pk_us, pk_us]
      exact hx
    · rw [pk_un c, pk_un c]
      exact j5 s hs hs2
  · rw [pk_un (fun z => h2 z.symm), pk_un (fun z => h2 z.symm)]
    exact j6
theorem rz_J_put2 {B : Nat} {a1 a2 a4 a5 : Nat → Int32} (J : rz_J B a1 a2 a4 a5) {x y : Int32} (ok : rz_ok B x y) : rz_J B (upd a1 2 x) (upd a2 2 y) (upd a4 2 x) (upd a5 2 y) := by
  obtain ⟨j1, j2, j3, j4, j5, j6⟩ := J
  refine ⟨j1, j2, fun s hs => ?_, fun s hs => ?_, fun s hs hs2 => ?_, ?_⟩
  · by_cases c : s = 2
    · rw [c, pk_us, pk_us]
      exact ok
    · rw [pk_un c, pk_un c]
      exact j3 s hs
  · by_cases c : s = 2
    · rw [c, pk_us, pk_us]
    · rw [pk_un c, pk_un c]
      exact j4 s hs
  · rw [pk_un hs2, pk_un hs2]
    exact j5 s hs hs2
  · rw [pk_us, pk_us]
/-! alike answers 1 -/
theorem rz_J_cmp {B : Nat} {a1 a2 a4 a5 : Nat → Int32} (J : rz_J B a1 a2 a4 a5) {r s : Nat} (hr : r < 4) (hs : s < 4) (hr2 : r ≠ 2) (hs2 : s ≠ 2) :
    rz_cmp (rz_sh (a1 r).toInt64 (a2 r - rz_low (a2 r) (a2 s))) (rz_sh (a1 s).toInt64 (a2 s - rz_low (a2 r) (a2 s))) =
    rz_cmp (rz_sh (a4 s).toInt64 (a5 s - rz_low (a5 s) (a5 r))) (rz_sh (a4 r).toInt64 (a5 r - rz_low (a5 s) (a5 r))) := by
  obtain ⟨j1, j2, j3, j4, j5, j6⟩ := J
  obtain ⟨r1, r2, r3, r4, r5⟩ := rz_ok64 j2 (j3 r hr)
  obtain ⟨s1, s2, s3, s4, s5⟩ := rz_ok64 j2 (j3 s hs)
  rw [j4 r hr, j4 s hs, j5 r hr hr2, j5 s hs hs2]
  exact rz_cmp2 r1 s1 r2 r3 s2 s3 r4 r5 s4 s5
theorem rz_al {post : Int32 → Prop} {B : Nat} {b md fl b' md' fl' : Int32} {a1 a2 a4 a5 : Nat → Int32} (J : rz_J B a1 a2 a4 a5) (h : post 1) : ∀ (k i : Nat), k + i = 4 → wL_alike_34 post b md fl a1 a2 b' md' fl' a4 a5 (k + 1) 1 (nI i)
  | 0, i, hi => by
    refine br_t (nI_le (a := 4) (b := i) (by omega) (by omega)) (br_f rz_10 ?_)
    refine rz_comp (r := 0) (s := 1) (by decide) (by decide) ?_
    refine rz_comp (r := 1) (s := 0) (by decide) (by decide) ?_
    refine br_t (rz_J_cmp J (by decide) (by decide) (by decide) (by decide)) ?_
    refine rz_comp (r := 3) (s := 0) (by decide) (by decide) ?_
    refine rz_comp (r := 0) (s := 3) (by decide) (by decide) ?_
    exact br_t (rz_J_cmp J (by decide) (by decide) (by decide) (by decide)) h
  | k + 1, i, hi => by
    have ih := rz_al (b := b) (md := md) (fl := fl) (b' := b') (md' := md') (fl' := fl') J h k (i + 1) (by omega)
    refine br_f (nI_ge (a := i) (b := 4) (by omega) (by decide)) (br_f rz_10 ?_)
    refine pk_eq i 2 (fun c => nm_r (nI_1 i) ih) (fun c => ?_)
    refine rz_mant (r := i) (by omega) ?_
    refine rz_mant (r := i) (by omega) ?_
    refine br_t ?_ ?_
    · rw [J.2.2.2.2.1 i (by omega) c, Int32.neg_neg]
    · refine rz_expo (r := i) (by omega) ?_
      refine rz_expo (r := i) (by omega) ?_
      exact br_t (J.2.2.2.1 i (by omega)).symm (nm_r (nI_1 i) ih)
theorem rz_alike {post : Int32 → Prop} {B : Nat} {b md fl b' md' fl' : Int32} {a1 a2 a4 a5 : Nat → Int32} (J : rz_J B a1 a2 a4 a5) (h : post 1) : wpL_alike post (b, md, fl, a1, a2, b', md', fl', a4, a5) := by
  unfold wpL_alike
  refine rz_mant (r := 2) (by decide) ?_
  refine rz_mant (r := 2) (by decide) ?_
  refine br_t J.2.2.2.2.2.symm ?_
  refine rz_expo (r := 2) (by decide) ?_
  refine rz_expo (r := 2) (by decide) ?_
  exact br_t (J.2.2.2.1 2 (by decide)).symm ⟨5, rz_al J h 4 0 rfl⟩
theorem rz_425 {post : Int32 → Prop} {L : Nat} {xs : Nat → Int32} {Jf : Int32 → Int32 → Int32 → Int32 → (Nat → Int32) → (Nat → Int32) → Int32 → Int32 → Int32 → (Nat → Int32) → (Nat → Int32) → Prop} {x4 x10 x11 : Int32} {kc ks : Nat}
    {B : Nat} {b md fl b' md' fl' : Int32} {a1 a2 a4 a5 : Nat → Int32} (J : rz_J B a1 a2 a4 a5) (he : x10 = x11) (h : Jf (x4 + 2) b md fl a1 a2 b' md' fl' a4 a5) :
    wL_law_425 post L xs Jf x4 x10 x11 kc ks b md fl a1 a2 b' md' fl' a4 a5 := by
  unfold wL_law_425
  refine br_t he ?_
  exact rz_alike J (br_f rz_10 (nm_e h))
theorem rz_pt {post : Int32 → St1 → Prop} {b md fl : Int32} {a1 a2 : Nat → Int32} {r : Nat} {neg : Int32} {t t' : Int32 × Int64 × Int32} (e : t' = t)
    (h : post t.1 (b, md, fl ||| t.1, upd a1 r (rz_M neg t.2.1 t.2.2), upd a2 r (rz_E t.2.1 t.2.2))) : rz_put post b md fl a1 a2 r neg t' := by
  rw [e]
  exact h
/-! the operations, both objects at once -/
theorem rz_J_add {B : Nat} {a1 a2 a4 a5 : Nat → Int32} (J : rz_J B a1 a2 a4 a5) {i j : Nat} (hi : i < 4) (hj : j < 4) (hi2 : i ≠ 2) (hj2 : j ≠ 2) (md : Int32) {T T' : Int64}
    (hT : T = rz_tot (a1 i).toInt64 (a2 i) (a1 j).toInt64 (a2 j)) (hT' : T' = rz_tot (a4 i).toInt64 (a5 i) (a4 j).toInt64 (a5 j)) :
    rz_two B (rz_ng T) (rz_ng T') (rz_R (nI B) md (rz_ng T) (rz_sz T) (rz_low (a2 i) (a2 j)) 0) (rz_R (nI B) (rz_mir md) (rz_ng T') (rz_sz T') (rz_low (a5 i) (a5 j)) 0) := by
  obtain ⟨j1, j2, j3, j4, j5, j6⟩ := J
  obtain ⟨r1, r2, r3, r4, r5⟩ := rz_ok64 j2 (j3 i hi)
  obtain ⟨s1, s2, s3, s4, s5⟩ := rz_ok64 j2 (j3 j hj)
  rw [j4 i hi, j4 j hj, j5 i hi hi2, j5 j hj hj2] at hT'
  rw [j4 i hi, j4 j hj]
  obtain ⟨t1, t2, t3⟩ := rz_tot2 r1 s1 r2 r3 s2 s3 r4 r5 s4 s5
  have hl := rz_lowT (a2 i) (a2 j)
  subst hT
  subst hT'
  exact rz_ex2 (by omega) j2 t1 t2 t3 (by omega) (by omega) md
theorem rz_J_sub {B : Nat} {a1 a2 a4 a5 : Nat → Int32} (J : rz_J B a1 a2 a4 a5) {i j : Nat} (hi : i < 4) (hj : j < 4) (hi2 : i ≠ 2) (hj2 : j ≠ 2) (md : Int32) {T T' : Int64}
    (hT : T = rz_tot (a1 i).toInt64 (a2 i) (-(a1 j)).toInt64 (a2 j)) (hT' : T' = rz_tot (a4 i).toInt64 (a5 i) (-(a4 j)).toInt64 (a5 j)) :
    rz_two B (rz_ng T) (rz_ng T') (rz_R (nI B) md (rz_ng T) (rz_sz T) (rz_low (a2 i) (a2 j)) 0) (rz_R (nI B) (rz_mir md) (rz_ng T') (rz_sz T') (rz_low (a5 i) (a5 j)) 0) := by
  obtain ⟨j1, j2, j3, j4, j5, j6⟩ := J
  obtain ⟨r1, r2, r3, r4, r5⟩ := rz_ok64 j2 (j3 i hi)
  obtain ⟨s1, s2, s3, s4, s5⟩ := rz_ok64 j2 (rz_ok_neg (j3 j hj))
  rw [j4 i hi, j4 j hj, j5 i hi hi2, j5 j hj hj2] at hT'
  rw [j4 i hi, j4 j hj]
  obtain ⟨t1, t2, t3⟩ := rz_tot2 r1 s1 r2 r3 s2 s3 r4 r5 s4 s5
  have hl := rz_lowT (a2 i) (a2 j)
  subst hT
  subst hT'
  exact rz_ex2 (by omega) j2 t1 t2 t3 (by omega) (by omega) md
theorem rz_J_mul {B : Nat} {a1 a2 a4 a5 : Nat → Int32} (J : rz_J B a1 a2 a4 a5) {i : Nat} (hi : i < 4) (hi2 : i ≠ 2) (md : Int32) {T T' : Int64}
    (hT : T = (a1 i).toInt64 * (a1 2).toInt64) (hT' : T' = (a4 i).toInt64 * (a4 2).toInt64) :
    rz_two B (rz_ng T) (rz_ng T') (rz_R (nI B) md (rz_ng T) (rz_sz T) (a2 i + a2 2) 0) (rz_R (nI B) (rz_mir md) (rz_ng T') (rz_sz T') (a5 i + a5 2) 0) := by
  obtain ⟨j1, j2, j3, j4, j5, j6⟩ := J
  obtain ⟨r1, r2, r3, r4, r5⟩ := rz_ok64 j2 (j3 i hi)
  obtain ⟨s1, s2, s3, s4, s5⟩ := rz_ok64 j2 (j3 2 (by decide))
  rw [j5 i hi hi2, j6] at hT'
  rw [j4 i hi, j4 2 (by decide)]
  obtain ⟨t1, t2, t3⟩ := rz_mul2 r1 r2 r3 s2 s3
  have he : (a2 i + a2 2).toInt = (a2 i).toInt + (a2 2).toInt := rz_addT (by omega) (by omega)
  subst hT
  subst hT'
  exact rz_ex2 (by omega) j2 t1 t2 t3 (by omega) (by omega) md
/-! load -/
theorem rz_m64 {m : Int32} (h1 : -1000001 < m.toInt) (h2 : m.toInt < 1000001) : (-m).toInt64 = -m.toInt64 ∧ (-m).toInt = -m.toInt := by
  have e1 : m.toInt64.toInt = m.toInt := Int32.toInt_toInt64 m
  have e2 : (-m).toInt = -m.toInt := by
    rw [Int32.toInt_neg]
    exact Int.bmod_eq_of_le (by omega) (by omega)
  refine ⟨?_, e2⟩
  apply Int64.toInt_inj.mp
  rw [rz_negT (by omega), Int32.toInt_toInt64, e1, e2]
theorem rz_rem6 (v : Int32) : -1000000 < (v - v / 1000000 * 1000000).toInt ∧ (v - v / 1000000 * 1000000).toInt < 1000000 := by
  have c6 : (1000000 : Int32).toInt = 1000000 := rfl
  have b1 := v.toInt_lt
  have b2 := v.le_toInt
  have d1 : (v / 1000000).toInt = v.toInt.tdiv 1000000 := by
    rw [Int32.toInt_div_of_ne_right _ _ (by decide), c6]
  have t1 := Int.mul_tdiv_add_tmod v.toInt 1000000
  have t2 := Int.tmod_lt_of_pos v.toInt (b := 1000000) (by decide)
  have t3 := Int.lt_tmod_of_pos v.toInt (b := 1000000) (by decide)
  have t4 : 0 ≤ v.toInt → 0 ≤ v.toInt.tmod 1000000 := fun h => Int.tmod_nonneg _ h
  have t5 : v.toInt < 0 → v.toInt.tmod 1000000 ≤ 0 := by
    intro h
    have g := Int.tmod_nonneg (a := -v.toInt) 1000000 (by omega)
    rw [Int.neg_tmod] at g
    omega
  have d2 : (v / 1000000 * 1000000).toInt = 1000000 * v.toInt.tdiv 1000000 := by
    rw [Int32.toInt_mul, c6, d1, Int.mul_comm]
    exact Int.bmod_eq_of_le (by omega) (by omega)
  rw [rz_subT (by omega) (by omega), d2]
  omega
theorem rz_R_small {B M : Nat} (hB : 3 ≤ B) (hB' : B ≤ 10) (hM : M ≤ 4) (md n : Int32) : rz_R (nI B) md n (lN M) 0 0 = (0, lN M, 0) := by
  obtain ⟨N, n1, n2, n3, n4⟩ := rz_bl_n (M := M) (by omega)
  have hN : N ≤ 3 := by
    rcases n4 with z | z
    · omega
    · have : N - 1 < 3 := rz_plt (by omega)
      omega
  have z0 : (0 : Int32).toInt = 0 := rfl
  have z11 : (11 : Int32).toInt = 11 := rfl
  have hu := rz_uT (e := 0) hB' n1 (by rw [z0]; omega) (by rw [z0]; omega)
  rw [z0] at hu
  unfold rz_R
  rw [n2]
  generalize rz_u (nI B) (nI N) 0 = u at *
  have k55 : rz_R55 (nI B) md n (lN M) 0 0 u = (0, lN M, 0) := by
    unfold rz_R55
    have c : ¬ 0 < u - 0 := by
      rw [rz_ltT, rz_subT (by rw [z0]; omega) (by rw [z0]; omega), z0]
      omega
    rw [if_neg c]
  have c11 : u ≤ 11 := by
    rw [rz_leT, z11]
    omega
  unfold rz_R33
  rw [k55, if_pos c11]
  by_cases c : lN M = 0
  · rw [if_pos c]
  · rw [if_neg c]
end
section
theorem rz_E0 (x : Int32) : rz_E 0 x = 0 := by
  have h : rz_st 62 0 x = (0, x) := by
    unfold rz_st
    rw [if_pos rfl]
  unfold rz_E
  rw [h, if_pos rfl]
theorem rz_J_div {B : Nat} {a1 a2 a4 a5 : Nat → Int32} (J : rz_J B a1 a2 a4 a5) {i : Nat} (hi : i < 4) (hi2 : i ≠ 2) (md : Int32) {d p : Int64} (hd : d = rz_sz (a1 2).toInt64) (hp : p = rz_sh (rz_sz (a1 i).toInt64) 40) :
    d = rz_sz (a4 2).toInt64 ∧ p = rz_sh (rz_sz (a4 i).toInt64) 40 ∧ (¬ d = 0 →
    rz_two B (rz_nx (a1 i) (a1 2)) (rz_nx (a4 i) (a4 2)) (rz_R (nI B) md (rz_nx (a1 i) (a1 2)) (p / d) (a2 i - a2 2 - 40) (rz_mo p d)) (rz_R (nI B) (rz_mir md) (rz_nx (a4 i) (a4 2)) (p / d) (a5 i - a5 2 - 40) (rz_mo p d))) := by
  obtain ⟨j1, j2, j3, j4, j5, j6⟩ := J
  obtain ⟨M, D, m1, m2, _⟩ := rz_ok_sz j2 (j3 i hi)
  rw [j5 i hi hi2, j6, j4 i hi, j4 2 (by decide)]
  refine ⟨hd, ?_, fun h0 => rz_div2 (by omega) j2 (j3 i hi) (j3 2 (by decide)) hd hp h0 md⟩
  rw [m2, ← m1]
  exact hp
theorem rz_small : ∀ g, g < 8 → rz_sz (nI g - 3).toInt64 = lN (if g < 3 then 3 - g else g - 3) := by decide +kernel
theorem rz_386 {post : Int32 → Prop} {L : Nat} {xs : Nat → Int32} {Jf : Int32 → Int32 → Int32 → Int32 → (Nat → Int32) → (Nat → Int32) → Int32 → Int32 → Int32 → (Nat → Int32) → (Nat → Int32) → Prop} {x4 : Int32} {kc ks : Nat}
    {B : Nat} {md fl : Int32} {a1 a2 a4 a5 : Nat → Int32} (J : rz_J B a1 a2 a4 a5) {r : Nat} (hr : r < 2) {up up' : Int32} (hu : rz_fl up up')
    (hK : ∀ (md fl : Int32) (a1 a2 a4 a5 : Nat → Int32), rz_J B a1 a2 a4 a5 → Jf (x4 + 2) (nI B) md fl a1 a2 (nI B) (rz_mir md) fl a4 a5) :
    wL_law_386 post L xs Jf x4 (nI r) 0 0 up kc ks (nI B) md fl a1 a2 (nI B) (rz_mir md) fl a4 a5 := by
  have hr4 : r < 4 := by omega
  have hr2 : r ≠ 2 := by omega
  have e4 := J.2.2.2.2.1 r hr4 hr2
  have e5 := J.2.2.2.1 r hr4
  obtain ⟨x1, x2, x3, x5⟩ := rz_next2 (by have := J.1; omega) J.2.1 (J.2.2.1 r hr4) rfl hu
  rw [← e4] at x1 x2 x3
  have kb : ∀ (z : Int32) (A1 A2 : Nat → Int32), wL_law_411 post L xs Jf x4 0 0 z up' (nI r) kc ks (nI B) md fl A1 A2 (nI B) (rz_mir md) fl a4 a5 →
      ((up = 0 → wL_law_411 post L xs Jf x4 0 0 z 1 (nI r) kc ks (nI B) md fl A1 A2 (nI B) (rz_mir md) fl a4 a5) ∧ (¬ up = 0 → wL_law_411 post L xs Jf x4 0 0 z 0 (nI r) kc ks (nI B) md fl A1 A2 (nI B) (rz_mir md) fl a4 a5)) := by
    intro z A1 A2 h
    rcases hu with ⟨p, q⟩ | ⟨p, q⟩
    · rw [q] at h
      exact br_t p h
    · rw [q] at h
      exact br_f (by rw [p]; exact rz_10) h
  unfold wL_law_386
  refine rz_next (r := r) hr4 (rz_sz (a1 r).toInt64) _ rfl rfl ⟨fun hN => ?_, fun t hN => ?_⟩
  · refine kb _ _ _ ?_
    have hN' : rz_N (nI B) (rz_ou (rz_nn (rz_sz (a1 r).toInt64) (a4 r) up') up') (rz_nu (nI B) (rz_sz (a1 r).toInt64) (a5 r)) (rz_wh (nI B) (rz_sz (a1 r).toInt64) (a5 r)) = none := by
      rw [e5, ← x3]
      exact hN
    unfold wL_law_411
    refine rz_next (r := r) hr4 (rz_sz (a1 r).toInt64) _ x1.symm rfl ⟨fun _ => ?_, fun x hx => absurd (hN'.symm.trans hx) (by simp)⟩
    exact br_t rfl (rz_425 J rfl (hK _ _ _ _ _ _ J))
  · refine kb _ _ _ ?_
    have hN' : rz_N (nI B) (rz_ou (rz_nn (rz_sz (a1 r).toInt64) (a4 r) up') up') (rz_nu (nI B) (rz_sz (a1 r).toInt64) (a5 r)) (rz_wh (nI B) (rz_sz (a1 r).toInt64) (a5 r)) = some t := by
      rw [e5, ← x3]
      exact hN
    unfold wL_law_411
    refine rz_next (r := r) hr4 (rz_sz (a1 r).toInt64) _ x1.symm rfl ⟨fun hx => absurd (hN'.symm.trans hx) (by simp), fun x hx => ?_⟩
    have ex : t = x := Option.some.inj (hN'.symm.trans hx)
    subst ex
    have J' := rz_J_put J hr2 (rz_M_flip x2 t.1 t.2) (x5 t hN)
    exact br_t rfl (rz_425 J' rfl (hK _ _ _ _ _ _ J'))
end
section
theorem rz_loop {L : Nat} {xs : Nat → Int32} {kc ks : Nat} (hL : L ≤ 260) : ∀ (n k B : Nat) (md fl : Int32) (a1 a2 a4 a5 : Nat → Int32), k ≤ L + 1 → L + 2 < k + n → rz_J B a1 a2 a4 a5 →
    wL_law_39 (fun r => r = 1) L xs kc ks n (nI k) (nI B) md fl a1 a2 (nI B) (rz_mir md) fl a4 a5
  | 0, k, B, md, fl, a1, a2, a4, a5, h1, h2, J => absurd h2 (by omega)
  | n + 1, k, B, md, fl, a1, a2, a4, a5, h1, h2, J => by
    refine pk_le L (k + 1) (fun z => br_t rfl rfl) (fun z => ?_) rfl (nI_1 k)
    have hK : ∀ (md fl : Int32) (a1 a2 a4 a5 : Nat → Int32), rz_J B a1 a2 a4 a5 → wL_law_39 (fun r => r = 1) L xs kc ks n (nI k + 2) (nI B) md fl a1 a2 (nI B) (rz_mir md) fl a4 a5 := by
      intro md fl a1 a2 a4 a5 J
      have e : nI k + 2 = nI (k + 2) := nI_add k 2
      rw [e]
      exact rz_loop hL n (k + 2) B md fl a1 a2 a4 a5 (by omega) (by omega) J
    have j1 := J.1
    have j2 := J.2.1
    obtain ⟨w, hw, ew⟩ := pk_andE (xs (nI k).toNatClampNeg) (m := 15) 4 (by decide)
    obtain ⟨r, hr, er⟩ := pk_andE ((xs (nI k).toNatClampNeg) >>> ((4 : Int32) &&& 31)) (m := 1) 1 (by decide)
    obtain ⟨a, ha, ea⟩ := pk_andE ((xs (nI k).toNatClampNeg) >>> ((5 : Int32) &&& 31)) (m := 1) 1 (by decide)
    obtain ⟨b, hb, eb⟩ := pk_andE ((xs (nI k).toNatClampNeg) >>> ((6 : Int32) &&& 31)) (m := 1) 1 (by decide)
    refine ⟨pk_in k L (by omega), nm_r ew ⟨pk_in k L (by omega), nm_r er ⟨pk_in k L (by omega), nm_r ea ⟨pk_in k L (by omega), nm_r eb ⟨pk_in (k + 1) L (by omega) (nI_1 k), nm_e ?_⟩⟩⟩⟩⟩
    generalize xs (nI k + 1).toNatClampNeg = v
    refine pk_le 2 w (fun c2 => ?_) (fun c2 => ?_)
    · refine pk_le 7 w (fun c7 => ?_) (fun c7 => ?_)
      · refine pk_le 8 w (fun c8 => ?_) (fun c8 => ?_)
        · refine pk_le 10 w (fun c10 => ?_) (fun c10 => ?_)
          · refine pk_le 11 w (fun c11 => ?_) (fun c11 => ?_)
            · refine pk_le 13 w (fun c13 => ?_) (fun c13 => ?_)
              · refine pk_le 15 w (fun c15 => ?_) (fun c15 => ?_)
                · exact br_c (fun _ => rz_386 J (by omega) (Or.inr ⟨rfl, rfl⟩) hK) (fun _ => rz_386 J (by omega) (Or.inl ⟨rfl, rfl⟩) hK)
                · obtain ⟨d1, d2, d3⟩ := rz_J_div J (i := a) (by omega) (by omega) md rfl rfl
                  refine rz_div (r := 3) (i := a) (j := 2) (by decide) (by omega) (by decide) _ _ rfl rfl (fun d0 => rz_pt rfl ?_) (fun d0 => rz_pt rfl ?_)
                  · refine rz_div (r := 3) (i := a) (j := 2) (by decide) (by omega) (by decide) _ _ d1 d2 (fun _ => rz_pt rfl ?_) (fun z => absurd d0 z)
                    have J' : rz_J B (upd a1 3 (rz_M 0 0 0)) (upd a2 3 (rz_E 0 0)) (upd a4 3 (rz_M 0 0 0)) (upd a5 3 (rz_E 0 0)) := rz_J_put J (by decide) (by rw [rz_M0]; rfl) (by rw [rz_M0, rz_E0]; exact rz_ok0)
                    exact rz_425 J' rfl (hK _ _ _ _ _ _ J')
                  · have T2 := d3 d0
                    refine rz_div (r := 3) (i := a) (j := 2) (by decide) (by omega) (by decide) _ _ d1 d2 (fun z => absurd z d0) (fun _ => rz_pt T2.1 ?_)
                    have J' := rz_J_put J (r := 3) (by decide) T2.2.1 T2.2.2
                    exact rz_425 J' rfl (hK _ _ _ _ _ _ J')
              · have T2 := rz_J_mul J (i := a) (by omega) (by omega) md rfl rfl
                refine rz_mul (r := r) (i := a) (j := 2) (by omega) (by omega) (by decide) _ rfl (rz_pt rfl ?_)
                refine rz_mul (r := r) (i := a) (j := 2) (by omega) (by omega) (by decide) _ rfl (rz_pt T2.1 ?_)
                have J' := rz_J_put J (r := r) (by omega) T2.2.1 T2.2.2
                exact rz_425 J' rfl (hK _ _ _ _ _ _ J')
            · have T2 := rz_J_sub J (i := 3) (j := b) (by omega) (by omega) (by omega) (by omega) md rfl rfl
              refine rz_sub (r := r) (i := 3) (j := b) (by omega) (by omega) (by omega) _ rfl (rz_pt rfl ?_)
              refine rz_sub (r := r) (i := 3) (j := b) (by omega) (by omega) (by omega) _ rfl (rz_pt T2.1 ?_)
              have J' := rz_J_put J (r := r) (by omega) T2.2.1 T2.2.2
              exact rz_425 J' rfl (hK _ _ _ _ _ _ J')
          · have T2 := rz_J_add J (i := a) (j := b) (by omega) (by omega) (by omega) (by omega) md rfl rfl
            refine rz_add (r := 3) (i := a) (j := b) (by decide) (by omega) (by omega) _ rfl (rz_pt rfl ?_)
            refine rz_add (r := 3) (i := a) (j := b) (by decide) (by omega) (by omega) _ rfl (rz_pt T2.1 ?_)
            have J' := rz_J_put J (r := 3) (by decide) T2.2.1 T2.2.2
            exact rz_425 J' rfl (hK _ _ _ _ _ _ J')
        · obtain ⟨g, hg, eg⟩ := pk_andE v (m := 7) 3 (by decide)
          refine nm_r (e' := nI g - 3) (by rw [eg]) ?_
          have z3 : (3 : Int32).toInt = 3 := rfl
          have hm : (nI g - 3).toInt = g - 3 := by
            rw [rz_subT (by rw [nI_toInt (by omega), z3]; omega) (by rw [nI_toInt (by omega), z3]; omega), nI_toInt (by omega), z3]
          have hs := rz_small g (by omega)
          obtain ⟨M, hM, eM⟩ : ∃ M, M ≤ 4 ∧ (if g < 3 then 3 - g else g - 3) = M := ⟨_, by split <;> omega, rfl⟩
          rw [eM] at hs
          generalize nI g - 3 = m at *
          have hR : ∀ md n, rz_R (nI B) md n (rz_sz m.toInt64) 0 0 = (0, lN M, 0) := by
            intro md n
            rw [hs]
            exact rz_R_small j1 j2 hM md n
          have z0 : (0 : Int32).toInt = 0 := rfl
          have hpre : rz_pre B (lN M) 0 := by
            have h := rz_R_pre (B := B) (M := M) (md := md) (neg := 0) (e := 0) (more := 0) j2 (by omega) (by rw [z0]; decide) (by rw [z0]; decide) (fun _ => rfl)
            rw [rz_R_small j1 j2 hM] at h
            exact h
          have q1 : ¬ m < (-1000000) := by
            rw [rz_ltT, hm, show (-1000000 : Int32).toInt = -1000000 from rfl]
            omega
          have q2 : ¬ 1000000 < m := by
            rw [rz_ltT, hm, show (1000000 : Int32).toInt = 1000000 from rfl]
            omega
          refine rz_load (r := 2) (by decide) q1 q2 (by decide) (by decide) (rz_pt (hR _ _) ?_)
          refine rz_load (r := 2) (by decide) q1 q2 (by decide) (by decide) (rz_pt (hR _ _) ?_)
          have J' := rz_J_put2 J (rz_pre_ok (by omega) j2 hpre (rz_ng m.toInt64))
          exact rz_425 J' rfl (hK _ _ _ _ _ _ J')
      · obtain ⟨g, hg, eg⟩ := pk_andE ((xs (nI k).toNatClampNeg) >>> ((7 : Int32) &&& 31)) (m := 31) 5 (by decide)
        have hm := rz_rem6 v
        refine ⟨by decide, nm_e ?_⟩
        generalize v - v / 1000000 * 1000000 = m at *
        refine ⟨pk_in k L (by omega), nm_r (e' := nI g - 18) (by rw [eg]) ?_⟩
        have z18 : (18 : Int32).toInt = 18 := rfl
        have he : (nI g - 18).toInt = g - 18 := by
          rw [rz_subT (by rw [nI_toInt (by omega), z18]; omega) (by rw [nI_toInt (by omega), z18]; omega), nI_toInt (by omega), z18]
        generalize nI g - 18 = e at *
        obtain ⟨m1, m2⟩ := rz_m64 (m := m) (by omega) (by omega)
        have q3 : ¬ e < (-20) := by
          rw [rz_ltT, he, show (-20 : Int32).toInt = -20 from rfl]
          omega
        have q4 : e ≤ 20 := by
          rw [rz_leT, he, show (20 : Int32).toInt = 20 from rfl]
          omega
        have q1 : ¬ m < (-1000000) := by
          rw [rz_ltT, show (-1000000 : Int32).toInt = -1000000 from rfl]
          omega
        have q2 : ¬ 1000000 < m := by
          rw [rz_ltT, show (1000000 : Int32).toInt = 1000000 from rfl]
          omega
        have p1 : ¬ -m < (-1000000) := by
          rw [rz_ltT, m2, show (-1000000 : Int32).toInt = -1000000 from rfl]
          omega
        have p2 : ¬ 1000000 < -m := by
          rw [rz_ltT, m2, show (1000000 : Int32).toInt = 1000000 from rfl]
          omega
        have e64 : m.toInt64.toInt = m.toInt := Int32.toInt_toInt64 m
        have T2 := rz_ex2 (B := B) (e := e) (by omega) j2 m1 (by omega) (by omega) (by omega) (by omega) md
        refine rz_load (r := r) (by omega) q1 q2 q3 q4 (rz_pt rfl ?_)
        refine rz_load (r := r) (by omega) p1 p2 q3 q4 (rz_pt T2.1 ?_)
        have J' := rz_J_put J (r := r) (by omega) T2.2.1 T2.2.2
        exact rz_425 J' rfl (hK _ _ _ _ _ _ J')
    · obtain ⟨g, hg, eg⟩ := pk_andE v (m := 3) 2 (by decide)
      refine nm_r eg ?_
      have h := hK (nI g) fl a1 a2 a4 a5 J
      refine rz_mode (j := g) hg ?_
      refine pk_eq g 1 (fun c => ?_) (fun c => ?_)
      · rw [show rz_mir (nI g) = nI 2 by rw [c]; decide] at h
        unfold wL_law_144
        exact rz_mode (j := 2) (by decide) (rz_425 J rfl h)
      · refine pk_eq g 2 (fun c' => ?_) (fun c' => ?_)
        · rw [show rz_mir (nI g) = nI 1 by rw [c']; decide] at h
          unfold wL_law_144
          exact rz_mode (j := 1) (by decide) (rz_425 J rfl h)
        · have hg' : g = 0 ∨ g = 3 := by omega
          rw [show rz_mir (nI g) = nI g by rcases hg' with q | q <;> rw [q] <;> decide] at h
          unfold wL_law_144
          exact rz_mode (j := g) hg (rz_425 J rfl h)
theorem rz_init {post : St1 → Prop} {B : Nat} (h3 : 3 ≤ B) (h10 : B ≤ 10) (h : post (nI B, 0, 0, (fun _ => 0), (fun _ => 0))) : wpX_init post 2 8 (0, 0, 0) (nI B) := by
  unfold wpX_init
  exact ⟨by decide, by decide, by decide, by decide, br_t (nI_le (a := 2) (by omega) (by omega)) (br_t (nI_le (b := 10) (by omega) (by decide)) h)⟩
theorem rz_17 {L : Nat} {xs : Nat → Int32} (hL : L ≤ 260) {B : Nat} (h3 : 3 ≤ B) (h10 : B ≤ 10) : wL_law_17 (fun r => r = 1) L xs (nI B) 0 0 := by
  unfold wL_law_17
  have hJ : rz_J B (fun _ => 0) (fun _ => 0) (fun _ => 0) (fun _ => 0) := ⟨h3, h10, fun _ _ => rz_ok0, fun _ _ => rfl, fun _ _ _ => (show (0 : Int32) = -0 by decide), rfl⟩
  refine ⟨by decide, by decide, 2, 8, by decide, by decide, rz_init h3 h10 ?_⟩
  refine ⟨by decide, by decide, 2, 8, by decide, by decide, rz_init h3 h10 ?_⟩
  have h := rz_loop (xs := xs) (kc := 0 + 1 + 2 + 1 + 2) (ks := 0 + 5 + 8 + 5 + 8) hL (L + 3) 1 B 0 0 _ _ _ _ (by omega) (by omega) hJ
  rw [show rz_mir 0 = 0 by decide] at h
  exact ⟨L + 3, h⟩
theorem i_vc (xs : Nat → Int32) (L : Nat) (hL : L ≤ 260) : wpL_law (fun r => r = 1) L xs := by
  unfold wpL_law
  refine pk_le L 0 (fun z => rz_17 (B := 5) hL (by decide) (by decide)) (fun z => ⟨pk_in 0 L z, ?_⟩)
  obtain ⟨j, hj, ej⟩ := pk_andE (xs (0 : Int32).toNatClampNeg) (m := 7) 3 (by decide)
  rw [ej, show (3 : Int32) + nI j = nI (3 + j) from nI_add 3 j]
  exact rz_17 hL (by omega) (by omega)
end
