section
/-! tasks are encoded as naturals e = c + 16 d + 256 p -/
/-- the work of an encoded task that gets ready before t -/
def rd_W (e t : Nat) : Nat := (t + e / 256 - 1) / (e / 256) * (e % 16)
/-- the work of an encoded task that gets ready at t -/
def rd_rl (e t : Nat) : Nat := if t % (e / 256) = 0 then e % 16 else 0
def rd_ok (e : Nat) : Prop := 1 ≤ e % 16 ∧ e % 16 ≤ e / 16 % 16 ∧ e / 16 % 16 ≤ e / 256 ∧ e / 256 ≤ 15
theorem rd_okp {e : Nat} (h : rd_ok e) : 0 < e / 256 ∧ e / 256 ≤ 15 ∧ 0 < e ∧ e < 4096 := by
  unfold rd_ok at h
  omega
theorem rd_oklt {e : Nat} (h : e = 0 ∨ rd_ok e) : e < 4096 := by
  rcases h with h | h
  · omega
  · exact (rd_okp h).2.2.2
theorem rd_ceil (p t : Nat) (hp : 0 < p) : (t + 1 + p - 1) / p = (t + p - 1) / p + (if t % p = 0 then 1 else 0) := by
  have h1 : (t + 1 + p - 1) / p = t / p + 1 := by
    rw [show t + 1 + p - 1 = t + p by omega, Nat.add_div_right t hp]
  have hd : p * (t / p) + t % p = t := Nat.div_add_mod t p
  have hr : t % p < p := Nat.mod_lt t hp
  rw [h1]
  by_cases h : t % p = 0
  · rw [if_pos h]
    have e : t + p - 1 = p * (t / p) + (p - 1) := by omega
    have e2 : (t + p - 1) / p = t / p := by
      rw [e, Nat.mul_add_div hp, Nat.div_eq_of_lt (show p - 1 < p by omega), Nat.add_zero]
    rw [e2]
  · rw [if_neg h]
    have e : t + p - 1 = p * (t / p + 1) + (t % p - 1) := by
      rw [Nat.mul_add]
      omega
    have e2 : (t + p - 1) / p = t / p + 1 := by
      rw [e, Nat.mul_add_div hp, Nat.div_eq_of_lt (show t % p - 1 < p by omega), Nat.add_zero]
    rw [e2, Nat.add_zero]
theorem rd_Ws {e : Nat} (h : e = 0 ∨ rd_ok e) (t : Nat) : rd_W e (t + 1) = rd_W e t + rd_rl e t := by
  unfold rd_W rd_rl
  rcases h with h | h
  · subst h
    simp
  · rw [rd_ceil _ t (rd_okp h).1, Nat.add_mul]
    by_cases z : t % (e / 256) = 0
    · rw [if_pos z, if_pos z, Nat.one_mul]
    · rw [if_neg z, if_neg z, Nat.zero_mul]
theorem rd_rl_le (e t : Nat) : rd_rl e t ≤ 15 := by
  unfold rd_rl
  split <;> omega
theorem rd_rl0 (t : Nat) : rd_rl 0 t = 0 := by
  simp [rd_rl]
theorem rd_W0 (t : Nat) : rd_W 0 t = 0 := by
  simp [rd_W]
theorem rd_Wz {e : Nat} (h : e = 0 ∨ rd_ok e) : rd_W e 0 = 0 := by
  rcases h with h | h
  · subst h
    exact rd_W0 0
  · have := (rd_okp h).1
    unfold rd_W
    rw [Nat.div_eq_of_lt (by omega), Nat.zero_mul]
theorem rd_Wle {e : Nat} (h : e = 0 ∨ rd_ok e) (t : Nat) : rd_W e t ≤ 15 * t := by
  induction t with
  | zero => rw [rd_Wz h]; omega
  | succ t ih =>
    rw [rd_Ws h]
    have := rd_rl_le e t
    omega
theorem rd_Wmono {e : Nat} (h : e = 0 ∨ rd_ok e) {a b : Nat} (hab : a ≤ b) : rd_W e a ≤ rd_W e b := by
  induction hab with
  | refl => exact Nat.le_refl _
  | step _ ih =>
    rw [Nat.succ_eq_add_one, rd_Ws h]
    omega
theorem rd_Wc {e : Nat} (h : rd_ok e) (t : Nat) : e % 16 ≤ rd_W e (t + 1) := by
  have h1 : rd_W e 1 = e % 16 := by
    rw [rd_Ws (Or.inr h) 0, rd_Wz (Or.inr h)]
    simp [rd_rl]
  have := rd_Wmono (Or.inr h) (show 1 ≤ t + 1 by omega)
  omega
/-! the least length of time that covers c and W, 63 if there is none up to n -/
def rd_rs (W : Nat → Nat) (c : Nat) : Nat → Nat
  | 0 => 63
  | n + 1 => if rd_rs W c n = 63 then (if c + W (n + 1) ≤ n + 1 then n + 1 else 63) else rd_rs W c n
theorem rd_rs_s (W : Nat → Nat) (c n : Nat) : rd_rs W c (n + 1) = if rd_rs W c n = 63 then (if c + W (n + 1) ≤ n + 1 then n + 1 else 63) else rd_rs W c n := rfl
theorem rd_rs_le (W : Nat → Nat) (c : Nat) {n : Nat} (hn : n ≤ 62) : rd_rs W c n ≤ 63 := by
  induction n with
  | zero => exact Nat.le_refl 63
  | succ n ih =>
    have := ih (by omega)
    rw [rd_rs_s]
    split
    · split <;> omega
    · omega
theorem rd_rs_none {W : Nat → Nat} {c n : Nat} (h : ∀ S, 1 ≤ S → S ≤ n → S < c + W S) : rd_rs W c n = 63 := by
  induction n with
  | zero => rfl
  | succ n ih =>
    have i := ih (fun S h1 h2 => h S h1 (by omega))
    have g := h (n + 1) (by omega) (by omega)
    rw [rd_rs_s, if_pos i, if_neg (by omega)]
theorem rd_rs_hit {W : Nat → Nat} {c n T : Nat} (h1 : 1 ≤ T) (hn : T ≤ n) (h62 : n ≤ 62) (hT : c + W T ≤ T) (hS : ∀ S, 1 ≤ S → S < T → S < c + W S) : rd_rs W c n = T := by
  induction n with
  | zero => omega
  | succ n ih =>
    by_cases e : T = n + 1
    · have i : rd_rs W c n = 63 := rd_rs_none (fun S g1 g2 => hS S g1 (by omega))
      rw [rd_rs_s, if_pos i, ← e, if_pos hT]
    · have i := ih (by omega) (by omega)
      rw [rd_rs_s, if_neg (by omega), i]
theorem rd_rs_gt {W : Nat → Nat} {c n m : Nat} (h : ∀ S, 1 ≤ S → S ≤ m → S < c + W S) (hm : m ≤ 62) : m < rd_rs W c n := by
  induction n with
  | zero => exact Nat.lt_of_le_of_lt hm (show 62 < 63 by omega)
  | succ n ih =>
    rw [rd_rs_s]
    by_cases z : rd_rs W c n = 63
    · rw [if_pos z]
      by_cases g : c + W (n + 1) ≤ n + 1
      · rw [if_pos g]
        by_cases k : n + 1 ≤ m
        · have := h (n + 1) (by omega) k
          omega
        · omega
      · rw [if_neg g]
        omega
    · rw [if_neg z]
      exact ih
theorem rd_rs_congr {W W' : Nat → Nat} (h : ∀ t, W t = W' t) (c n : Nat) : rd_rs W c n = rd_rs W' c n := by
  rw [show W = W' from funext h]
/-! idle time: the running maximum of t - W t -/
def rd_Im (W : Nat → Nat) : Nat → Nat
  | 0 => 0
  | n + 1 => max (rd_Im W n) (n + 1 - W (n + 1))
theorem rd_Im_s (W : Nat → Nat) (n : Nat) : rd_Im W (n + 1) = max (rd_Im W n) (n + 1 - W (n + 1)) := rfl
theorem rd_Im_le (W : Nat → Nat) (n : Nat) : rd_Im W n ≤ n := by
  induction n with
  | zero => exact Nat.le_refl 0
  | succ n ih =>
    rw [rd_Im_s]
    omega
theorem rd_stepI {T : Nat → Nat} {t V rv V' idle u : Nat} (e : T (t + 1) = T t + rv) (hV : V + t = T t + rd_Im T t) (hi : idle = rd_Im T (min t u))
    (hc : (0 < V + rv ∧ V' + 1 = V + rv) ∨ (V + rv = 0 ∧ V' = 0)) :
    V' + (t + 1) = T (t + 1) + rd_Im T (t + 1) ∧ idle + (if V + rv = 0 ∧ t < u then 1 else 0) = rd_Im T (min (t + 1) u) := by
  have hs := rd_Im_s T t
  by_cases z : V + rv = 0
  · have q : rd_Im T (t + 1) = rd_Im T t + 1 := by omega
    refine ⟨by omega, ?_⟩
    by_cases g : t < u
    · rw [if_pos ⟨z, g⟩, hi, show min t u = t by omega, show min (t + 1) u = t + 1 by omega, q]
    · rw [if_neg (by omega), hi, show min t u = u by omega, show min (t + 1) u = u by omega]
      rfl
  · have q : rd_Im T (t + 1) = rd_Im T t := by omega
    refine ⟨by omega, ?_⟩
    rw [if_neg (by omega), hi]
    by_cases g : t < u
    · rw [show min t u = t by omega, show min (t + 1) u = t + 1 by omega, q]
      rfl
    · rw [show min t u = u by omega, show min (t + 1) u = u by omega]
      rfl
theorem rd_stepA {HW : Nat → Nat} {c t h m D rh rm MW MW1 aa h' m' D' : Nat} (e1 : HW (t + 1) = HW t + rh) (e2 : MW1 = MW + rm) (e3 : c ≤ MW1)
    (ha : aa = rd_rs HW c t) (hI : aa = 63 → D < c ∧ h + t = HW t + D ∧ m + D = MW) (ht : t < 62)
    (hc : (0 < h + rh ∧ h' + 1 = h + rh ∧ m' = m + rm ∧ D' = D) ∨ (h + rh = 0 ∧ 0 < m + rm ∧ h' = 0 ∧ m' + 1 = m + rm ∧ D' = D + 1) ∨ (h + rh = 0 ∧ m + rm = 0)) :
    (if aa = 63 ∧ D' = c then t + 1 else aa) = rd_rs HW c (t + 1) ∧ ((if aa = 63 ∧ D' = c then t + 1 else aa) = 63 → D' < c ∧ h' + (t + 1) = HW (t + 1) + D' ∧ m' + D' = MW1) := by
  rw [rd_rs_s, ← ha]
  by_cases z : aa = 63
  · obtain ⟨i1, i2, i3⟩ := hI z
    by_cases g : D' = c
    · rw [if_pos ⟨z, g⟩, if_pos z, if_pos (by omega)]
      exact ⟨rfl, fun k => absurd k (by omega)⟩
    · rw [if_neg (fun k => g k.2), if_pos z, if_neg (by omega)]
      exact ⟨z, fun _ => by omega⟩
  · rw [if_neg (fun k => z k.1), if_neg z]
    exact ⟨rfl, fun k => absurd k z⟩
/-! the law's simulation, one step over naturals -/
def rd_turn (a b c : Nat) : Nat := if 0 < a then 1 else if 0 < b then 2 else if 0 < c then 3 else 0
def rd_mine (Q R : Nat) : Nat := if 0 < R then 3 else if 0 < Q then 2 else 1
def rd_bi (a b : Nat) : Nat := if a = b then 1 else 0
def rd_H (P Q R t : Nat) : Nat := if 0 < R then rd_W P t + rd_W Q t else if 0 < Q then rd_W P t else 0
def rd_me (P Q R : Nat) : Nat := if 0 < R then R else if 0 < Q then Q else P
def rd_T (P Q R t : Nat) : Nat := rd_W P t + rd_W Q t + rd_W R t
def rd_cfg (P Q R : Nat) : Prop := rd_ok P ∧ (Q = 0 ∨ rd_ok Q) ∧ (R = 0 ∨ rd_ok R) ∧ (0 < R → 0 < Q)
def rd_hp (Q R wP wQ : Nat) : Nat := if 0 < R then wP + wQ else if 0 < Q then wP else 0
def rd_mp (Q R wP wQ wR : Nat) : Nat := if 0 < R then wR else if 0 < Q then wQ else wP
def rd_inv (P Q R u t wP wQ wR D aa idle : Nat) : Prop :=
  wP ≤ rd_W P t ∧ wQ ≤ rd_W Q t ∧ wR ≤ rd_W R t ∧ D ≤ t ∧
  wP + wQ + wR + t = rd_T P Q R t + rd_Im (rd_T P Q R) t ∧
  idle = rd_Im (rd_T P Q R) (min t u) ∧
  aa = rd_rs (rd_H P Q R) (rd_me P Q R % 16) t ∧
  (aa = 63 → D < rd_me P Q R % 16 ∧ rd_hp Q R wP wQ + t = rd_H P Q R t + D ∧ rd_mp Q R wP wQ wR + D = rd_W (rd_me P Q R) t)
theorem rd_me_ok {P Q R : Nat} (h : rd_cfg P Q R) : rd_ok (rd_me P Q R) := by
  obtain ⟨h1, h2, h3, h4⟩ := h
  unfold rd_me
  split
  · rcases h3 with h3 | h3
    · omega
    · exact h3
  · split
    · rcases h2 with h2 | h2
      · omega
      · exact h2
    · exact h1
theorem rd_inv0 {P Q R u : Nat} (hc : rd_cfg P Q R) : rd_inv P Q R u 0 0 0 0 0 63 0 := by
  have hm := rd_me_ok hc
  obtain ⟨h1, h2, h3, h4⟩ := hc
  have a := rd_Wz (Or.inr h1)
  have b := rd_Wz h2
  have c := rd_Wz h3
  have d := rd_Wz (Or.inr hm)
  unfold rd_inv
  refine ⟨by omega, by omega, by omega, by omega, ?_, ?_, rfl, fun _ => ⟨?_, ?_, ?_⟩⟩
  · unfold rd_T rd_Im
    omega
  · rw [Nat.zero_min]
    rfl
  · unfold rd_ok at hm
    omega
  · unfold rd_hp rd_H
    split
    · omega
    · split <;> omega
  · rw [d]
    unfold rd_mp
    split
    · rfl
    · split <;> rfl
theorem rd_turn_c (a b c : Nat) : (0 < a ∧ rd_turn a b c = 1) ∨ (a = 0 ∧ 0 < b ∧ rd_turn a b c = 2) ∨ (a = 0 ∧ b = 0 ∧ 0 < c ∧ rd_turn a b c = 3) ∨ (a = 0 ∧ b = 0 ∧ c = 0 ∧ rd_turn a b c = 0) := by
  unfold rd_turn
  by_cases h1 : 0 < a
  · rw [if_pos h1]; exact Or.inl ⟨h1, rfl⟩
  · rw [if_neg h1]
    by_cases h2 : 0 < b
    · rw [if_pos h2]; exact Or.inr (Or.inl ⟨by omega, h2, rfl⟩)
    · rw [if_neg h2]
      by_cases h3 : 0 < c
      · rw [if_pos h3]; exact Or.inr (Or.inr (Or.inl ⟨by omega, by omega, h3, rfl⟩))
      · rw [if_neg h3]; exact Or.inr (Or.inr (Or.inr ⟨by omega, by omega, by omega, rfl⟩))
theorem rd_step {P Q R u t wP wQ wR D aa idle : Nat} (hc : rd_cfg P Q R) (ht : t < 32) (hI : rd_inv P Q R u t wP wQ wR D aa idle) :
    rd_inv P Q R u (t + 1)
      (wP + rd_rl P t - rd_bi (rd_turn (wP + rd_rl P t) (wQ + rd_rl Q t) (wR + rd_rl R t)) 1)
      (wQ + rd_rl Q t - rd_bi (rd_turn (wP + rd_rl P t) (wQ + rd_rl Q t) (wR + rd_rl R t)) 2)
      (wR + rd_rl R t - rd_bi (rd_turn (wP + rd_rl P t) (wQ + rd_rl Q t) (wR + rd_rl R t)) 3)
      (D + rd_bi (rd_turn (wP + rd_rl P t) (wQ + rd_rl Q t) (wR + rd_rl R t)) (rd_mine Q R))
      (if aa = 63 ∧ D + rd_bi (rd_turn (wP + rd_rl P t) (wQ + rd_rl Q t) (wR + rd_rl R t)) (rd_mine Q R) = rd_me P Q R % 16 then t + 1 else aa)
      (idle + (if rd_turn (wP + rd_rl P t) (wQ + rd_rl Q t) (wR + rd_rl R t) = 0 ∧ t < u then 1 else 0)) := by
  have hm := rd_me_ok hc
  obtain ⟨h1, h2, h3, h4⟩ := hc
  have eP := rd_Ws (Or.inr h1) t
  have eQ := rd_Ws h2 t
  have eR := rd_Ws h3 t
  have eM := rd_Ws (Or.inr hm) t
  have cM := rd_Wc hm t
  obtain ⟨i1, i2, i3, i4, i5, i6, i7, i8⟩ := hI
  have hT : rd_T P Q R (t + 1) = rd_T P Q R t + (rd_rl P t + rd_rl Q t + rd_rl R t) := by
    unfold rd_T
    omega
  have hH : rd_H P Q R (t + 1) = rd_H P Q R t + rd_hp Q R (rd_rl P t) (rd_rl Q t) := by
    unfold rd_H rd_hp
    split
    · omega
    · split
      · omega
      · rfl
  have tc := rd_turn_c (wP + rd_rl P t) (wQ + rd_rl Q t) (wR + rd_rl R t)
  generalize rd_turn (wP + rd_rl P t) (wQ + rd_rl Q t) (wR + rd_rl R t) = k at tc ⊢
  have b0 : rd_bi k 1 + rd_bi k 2 + rd_bi k 3 = (if k = 0 then 0 else 1) ∧ rd_bi k 1 ≤ wP + rd_rl P t ∧ rd_bi k 2 ≤ wQ + rd_rl Q t ∧ rd_bi k 3 ≤ wR + rd_rl R t := by
    rcases tc with ⟨a, rfl⟩ | ⟨a, b, rfl⟩ | ⟨a, b, c, rfl⟩ | ⟨a, b, c, rfl⟩ <;> simp [rd_bi] <;> omega
  have SI := rd_stepI (u := u) (V' := (wP + rd_rl P t - rd_bi k 1) + (wQ + rd_rl Q t - rd_bi k 2) + (wR + rd_rl R t - rd_bi k 3)) hT i5 i6 (by
    by_cases z : k = 0
    · rw [if_pos z] at b0
      right
      omega
    · rw [if_neg z] at b0
      left
      omega)
  have zk : (wP + wQ + wR + (rd_rl P t + rd_rl Q t + rd_rl R t) = 0) = (k = 0) := propext (by omega)
  simp only [zk] at SI
  have rQ : Q = 0 → rd_rl Q t = 0 ∧ wQ = 0 := by
    intro z
    subst z
    have := rd_W0 t
    exact ⟨rd_rl0 t, by omega⟩
  have rR : R = 0 → rd_rl R t = 0 ∧ wR = 0 := by
    intro z
    subst z
    have := rd_W0 t
    exact ⟨rd_rl0 t, by omega⟩
  have SA := rd_stepA (h' := rd_hp Q R (wP + rd_rl P t - rd_bi k 1) (wQ + rd_rl Q t - rd_bi k 2)) (m' := rd_mp Q R (wP + rd_rl P t - rd_bi k 1) (wQ + rd_rl Q t - rd_bi k 2) (wR + rd_rl R t - rd_bi k 3)) (D' := D + rd_bi k (rd_mine Q R))
    hH eM cM i7 i8 (by omega) (by
      unfold rd_hp rd_mp rd_mine rd_me
      by_cases zR : 0 < R
      · simp only [if_pos zR]
        rcases tc with ⟨a, rfl⟩ | ⟨a, b, rfl⟩ | ⟨a, b, c, rfl⟩ | ⟨a, b, c, rfl⟩ <;> simp [rd_bi] <;> omega
      · have rR' := rR (by omega)
        simp only [if_neg zR]
        by_cases zQ : 0 < Q
        · simp only [if_pos zQ]
          rcases tc with ⟨a, rfl⟩ | ⟨a, b, rfl⟩ | ⟨a, b, c, rfl⟩ | ⟨a, b, c, rfl⟩ <;> simp [rd_bi] <;> omega
        · have rQ' := rQ (by omega)
          simp only [if_neg zQ]
          rcases tc with ⟨a, rfl⟩ | ⟨a, b, rfl⟩ | ⟨a, b, c, rfl⟩ | ⟨a, b, c, rfl⟩ <;> simp [rd_bi] <;> omega)
  have bm : rd_bi k (rd_mine Q R) ≤ 1 := by
    unfold rd_bi
    split <;> omega
  exact ⟨by omega, by omega, by omega, by omega, SI.1, SI.2, SA.1, SA.2⟩
theorem rd_inv_b {P Q R u t wP wQ wR D aa idle : Nat} (hc : rd_cfg P Q R) (ht : t ≤ 32) (hI : rd_inv P Q R u t wP wQ wR D aa idle) :
    wP ≤ 480 ∧ wQ ≤ 480 ∧ wR ≤ 480 ∧ D ≤ 32 ∧ aa ≤ 63 ∧ idle ≤ 32 := by
  obtain ⟨h1, h2, h3, h4⟩ := hc
  obtain ⟨i1, i2, i3, i4, i5, i6, i7, i8⟩ := hI
  have a := rd_Wle (Or.inr h1) t
  have b := rd_Wle h2 t
  have c := rd_Wle h3 t
  have d := rd_rs_le (rd_H P Q R) (rd_me P Q R % 16) (n := t) (by omega)
  have e := rd_Im_le (rd_T P Q R) (min t u)
  omega
end
section
theorem rd_and15 {n : Nat} (h : n < 2 ^ 31) : nI n &&& 15 = nI (n % 16) := pk_andN (by omega) 4 (by decide)
theorem rd_and63 {n : Nat} (h : n < 2 ^ 31) : nI n &&& 63 = nI (n % 64) := pk_andN (by omega) 6 (by decide)
theorem rd_and31 (x : Int32) : ∃ j : Nat, j < 32 ∧ x &&& 31 = nI j := pk_andE x 5 (by decide)
theorem rd_shr8 {n : Nat} (h : n < 2 ^ 31) : nI n >>> ((8 : Int32) &&& 31) = nI (n / 256) := pk_shrN h _ 8 (by decide)
theorem rd_shr4 {n : Nat} (h : n < 2 ^ 31) : nI n >>> ((4 : Int32) &&& 31) = nI (n / 16) := pk_shrN h _ 4 (by decide)
theorem rd_shr6 {n : Nat} (h : n < 2 ^ 31) : nI n >>> ((6 : Int32) &&& 31) = nI (n / 64) := pk_shrN h _ 6 (by decide)
theorem rd_or6 : ∀ a, a < 32 → ∀ b, b < 64 → (nI a <<< ((6 : Int32) &&& 31)) ||| nI b = nI (a * 64 + b) := by decide +kernel
/-- what the loop's next round starts from -/
def rd_nt (J : Int32 → Int32 → Int32 → Int32 → Int32 → Int32 → Int32 → Prop) (me u turn mine p q r D aa idle t : Nat) : Prop :=
  J (nI (p - rd_bi turn 1)) (nI (q - rd_bi turn 2)) (nI (r - rd_bi turn 3)) (nI (D + rd_bi turn mine))
    (nI (if aa = 63 ∧ D + rd_bi turn mine = me % 16 then t + 1 else aa)) (nI (idle + (if turn = 0 ∧ t < u then 1 else 0))) (nI (t + 1))
section
variable {post : Int32 → Prop} {J : Int32 → Int32 → Int32 → Int32 → Int32 → Int32 → Int32 → Prop} {x0 x1 x2 x5 x6 x7 x8 z0 : Int32}
theorem rd_245 {x3 : Int32} (u idle t turn : Nat) (hu : u < 2 ^ 31) (ht : t < 2 ^ 31) (hn : turn < 2 ^ 31)
    (H : J x5 x6 x7 x8 z0 (nI (idle + (if turn = 0 ∧ t < u then 1 else 0))) (nI (t + 1))) :
    wL_response_245 post J x0 x1 x2 x3 (nI u) x5 x6 x7 x8 (nI idle) (nI t) (nI turn) z0 := by
  unfold wL_response_245
  refine pk_eq turn 0 (fun a => pk_le u t (fun b => ?_) (fun b => ?_)) (fun a => ?_)
  · rw [if_neg (by omega)] at H
    exact nm_r (nI_add idle 0) (nm_r (nI_1 t) H)
  · rw [if_pos ⟨a, b⟩] at H
    exact nm_r (nI_1 idle) (nm_r (nI_1 t) H)
  · rw [if_neg (by omega)] at H
    exact nm_r (nI_add idle 0) (nm_r (nI_1 t) H)
theorem rd_217 (me u D dz aa idle t turn : Nat) (hme : me < 2 ^ 31) (hu : u < 2 ^ 31) (ht : t < 2 ^ 31) (hn : turn < 2 ^ 31) (hD : D + dz < 2 ^ 31) (ha : aa < 2 ^ 31)
    (H : J x5 x6 x7 (nI (D + dz)) (nI (if aa = 63 ∧ D + dz = me % 16 then t + 1 else aa)) (nI (idle + (if turn = 0 ∧ t < u then 1 else 0))) (nI (t + 1))) :
    wL_response_217 post J x0 x1 x2 (nI me) (nI u) x5 x6 x7 (nI aa) (nI idle) (nI t) (nI turn) (nI dz) (nI D) := by
  unfold wL_response_217
  rw [rd_and15 hme]
  refine nm_r (nI_add D dz) (pk_eq aa 63 (fun a => pk_eq (D + dz) (me % 16) (fun b => ?_) (fun b => ?_)) (fun a => ?_))
  · rw [if_pos ⟨a, b⟩] at H
    rw [nI_1]
    exact rd_245 u idle t turn hu ht hn H
  · rw [if_neg (fun k => b k.2)] at H
    exact rd_245 u idle t turn hu ht hn H
  · rw [if_neg (fun k => a k.1)] at H
    exact rd_245 u idle t turn hu ht hn H
theorem rd_200 (me u r bz D aa idle t turn mine : Nat) (hb : bz ≤ r) (hme : me < 2 ^ 31) (hu : u < 2 ^ 31) (ht : t < 2 ^ 31) (hn : turn < 2 ^ 31) (hm : mine < 2 ^ 31) (hD : D + 1 < 2 ^ 31) (ha : aa < 2 ^ 31)
    (H : J x5 x6 (nI (r - bz)) (nI (D + rd_bi turn mine)) (nI (if aa = 63 ∧ D + rd_bi turn mine = me % 16 then t + 1 else aa)) (nI (idle + (if turn = 0 ∧ t < u then 1 else 0))) (nI (t + 1))) :
    wL_response_200 post J x0 x1 x2 (nI me) (nI u) x5 x6 (nI D) (nI aa) (nI idle) (nI t) (nI turn) (nI mine) (nI bz) (nI r) := by
  unfold wL_response_200
  refine nm_r (pk_sub hb) (pk_eq turn mine (fun a => ?_) (fun a => ?_))
  · rw [show rd_bi turn mine = 1 from if_pos a] at H
    exact rd_217 me u D 1 aa idle t turn hme hu ht hn (by omega) ha H
  · rw [show rd_bi turn mine = 0 from if_neg a] at H
    exact rd_217 me u D 0 aa idle t turn hme hu ht hn (by omega) ha H
theorem rd_184 (me u q bz r D aa idle t turn mine : Nat) (hb : bz ≤ q) (hr : rd_bi turn 3 ≤ r) (hme : me < 2 ^ 31) (hu : u < 2 ^ 31) (ht : t < 2 ^ 31) (hn : turn < 2 ^ 31) (hm : mine < 2 ^ 31) (hD : D + 1 < 2 ^ 31) (ha : aa < 2 ^ 31)
    (H : J x5 (nI (q - bz)) (nI (r - rd_bi turn 3)) (nI (D + rd_bi turn mine)) (nI (if aa = 63 ∧ D + rd_bi turn mine = me % 16 then t + 1 else aa)) (nI (idle + (if turn = 0 ∧ t < u then 1 else 0))) (nI (t + 1))) :
    wL_response_184 post J x0 x1 x2 (nI me) (nI u) x5 (nI r) (nI D) (nI aa) (nI idle) (nI t) (nI turn) (nI mine) (nI bz) (nI q) := by
  unfold wL_response_184
  refine nm_r (pk_sub hb) (pk_eq turn 3 (fun a => ?_) (fun a => ?_))
  · rw [show rd_bi turn 3 = 1 from if_pos a] at H hr
    exact rd_200 me u r 1 D aa idle t turn mine hr hme hu ht hn hm hD ha H
  · rw [show rd_bi turn 3 = 0 from if_neg a] at H hr
    exact rd_200 me u r 0 D aa idle t turn mine hr hme hu ht hn hm hD ha H
theorem rd_168 (me u p bz q r D aa idle t turn mine : Nat) (hb : bz ≤ p) (hq : rd_bi turn 2 ≤ q) (hr : rd_bi turn 3 ≤ r) (hme : me < 2 ^ 31) (hu : u < 2 ^ 31) (ht : t < 2 ^ 31) (hn : turn < 2 ^ 31) (hm : mine < 2 ^ 31) (hD : D + 1 < 2 ^ 31) (ha : aa < 2 ^ 31)
    (H : J (nI (p - bz)) (nI (q - rd_bi turn 2)) (nI (r - rd_bi turn 3)) (nI (D + rd_bi turn mine)) (nI (if aa = 63 ∧ D + rd_bi turn mine = me % 16 then t + 1 else aa)) (nI (idle + (if turn = 0 ∧ t < u then 1 else 0))) (nI (t + 1))) :
    wL_response_168 post J x0 x1 x2 (nI me) (nI u) (nI q) (nI r) (nI D) (nI aa) (nI idle) (nI t) (nI turn) (nI mine) (nI bz) (nI p) := by
  unfold wL_response_168
  refine nm_r (pk_sub hb) (pk_eq turn 2 (fun a => ?_) (fun a => ?_))
  · rw [show rd_bi turn 2 = 1 from if_pos a] at H hq
    exact rd_184 me u q 1 r D aa idle t turn mine hq hr hme hu ht hn hm hD ha H
  · rw [show rd_bi turn 2 = 0 from if_neg a] at H hq
    exact rd_184 me u q 0 r D aa idle t turn mine hq hr hme hu ht hn hm hD ha H
theorem rd_153 (me u p q r D aa idle t turn mine : Nat) (hp : rd_bi turn 1 ≤ p) (hq : rd_bi turn 2 ≤ q) (hr : rd_bi turn 3 ≤ r) (hme : me < 2 ^ 31) (hu : u < 2 ^ 31) (ht : t < 2 ^ 31) (hn : turn < 2 ^ 31) (hm : mine < 2 ^ 31) (hD : D + 1 < 2 ^ 31) (ha : aa < 2 ^ 31)
    (H : rd_nt J me u turn mine p q r D aa idle t) :
    wL_response_153 post J x0 x1 x2 (nI me) (nI u) (nI p) (nI q) (nI r) (nI D) (nI aa) (nI idle) (nI t) (nI turn) (nI mine) := by
  unfold wL_response_153
  unfold rd_nt at H
  refine pk_eq turn 1 (fun a => ?_) (fun a => ?_)
  · rw [show rd_bi turn 1 = 1 from if_pos a] at H hp
    exact rd_168 me u p 1 q r D aa idle t turn mine hp hq hr hme hu ht hn hm hD ha H
  · rw [show rd_bi turn 1 = 0 from if_neg a] at H hp
    exact rd_168 me u p 0 q r D aa idle t turn mine hp hq hr hme hu ht hn hm hD ha H
theorem rd_134 (Q R me u p q r D aa idle t turn : Nat) (hQ : Q < 4096) (hR : R < 4096) (hp : rd_bi turn 1 ≤ p) (hq : rd_bi turn 2 ≤ q) (hr : rd_bi turn 3 ≤ r) (hme : me < 2 ^ 31) (hu : u < 2 ^ 31) (ht : t < 2 ^ 31) (hn : turn < 2 ^ 31) (hD : D + 1 < 2 ^ 31) (ha : aa < 2 ^ 31)
    (H : rd_nt J me u turn (rd_mine Q R) p q r D aa idle t) :
    wL_response_134 post J x0 (nI Q) (nI R) (nI me) (nI u) (nI p) (nI q) (nI r) (nI D) (nI aa) (nI idle) (nI t) (nI turn) := by
  unfold wL_response_134
  refine pk_le R 0 (fun a => pk_le Q 0 (fun b => ?_) (fun b => ?_)) (fun a => ?_)
  · rw [show rd_mine Q R = 1 from (if_neg (by omega)).trans (if_neg (by omega))] at H
    exact rd_153 me u p q r D aa idle t turn 1 hp hq hr hme hu ht hn (by omega) hD ha H
  · rw [show rd_mine Q R = 2 from (if_neg (by omega)).trans (if_pos (by omega))] at H
    exact rd_153 me u p q r D aa idle t turn 2 hp hq hr hme hu ht hn (by omega) hD ha H
  · rw [show rd_mine Q R = 3 from if_pos a] at H
    exact rd_153 me u p q r D aa idle t turn 3 hp hq hr hme hu ht hn (by omega) hD ha H
theorem rd_103 (Q R me u p q r z D aa idle t : Nat) (hQ : Q < 4096) (hR : R < 4096) (hp : p < 2 ^ 31) (hq : q < 2 ^ 31) (hr : r + z < 2 ^ 31) (hme : me < 2 ^ 31) (hu : u < 2 ^ 31) (ht : t < 2 ^ 31) (hD : D + 1 < 2 ^ 31) (ha : aa < 2 ^ 31)
    (H : rd_nt J me u (rd_turn p q (r + z)) (rd_mine Q R) p q (r + z) D aa idle t) :
    wL_response_103 post J x0 (nI Q) (nI R) (nI me) (nI u) (nI p) (nI q) (nI D) (nI aa) (nI idle) (nI t) (nI z) (nI r) := by
  unfold wL_response_103
  refine nm_r (nI_add r z) (pk_le p 0 (fun a => pk_le q 0 (fun b => pk_le (r + z) 0 (fun c => ?_) (fun c => ?_)) (fun b => ?_)) (fun a => ?_))
  · rw [show rd_turn p q (r + z) = 0 from (if_neg (by omega)).trans ((if_neg (by omega)).trans (if_neg (by omega)))] at H
    exact rd_134 Q R me u p q (r + z) D aa idle t 0 hQ hR (Nat.zero_le _) (Nat.zero_le _) (Nat.zero_le _) hme hu ht (by omega) hD ha H
  · rw [show rd_turn p q (r + z) = 3 from (if_neg (by omega)).trans ((if_neg (by omega)).trans (if_pos (by omega)))] at H
    exact rd_134 Q R me u p q (r + z) D aa idle t 3 hQ hR (Nat.zero_le _) (Nat.zero_le _) c hme hu ht (by omega) hD ha H
  · rw [show rd_turn p q (r + z) = 2 from (if_neg (by omega)).trans (if_pos (by omega))] at H
    exact rd_134 Q R me u p q (r + z) D aa idle t 2 hQ hR (Nat.zero_le _) b (Nat.zero_le _) hme hu ht (by omega) hD ha H
  · rw [show rd_turn p q (r + z) = 1 from if_pos (by omega)] at H
    exact rd_134 Q R me u p q (r + z) D aa idle t 1 hQ hR a (Nat.zero_le _) (Nat.zero_le _) hme hu ht (by omega) hD ha H
theorem rd_76 (Q R me u p q z r D aa idle t : Nat) (hQ : Q < 4096) (hR : R = 0 ∨ rd_ok R) (hp : p < 2 ^ 31) (hq : q + z < 2 ^ 31) (hr : r + 15 < 2 ^ 31) (hme : me < 2 ^ 31) (hu : u < 2 ^ 31) (ht : t < 2 ^ 31) (hD : D + 1 < 2 ^ 31) (ha : aa < 2 ^ 31)
    (H : rd_nt J me u (rd_turn p (q + z) (r + rd_rl R t)) (rd_mine Q R) p (q + z) (r + rd_rl R t) D aa idle t) :
    wL_response_76 post J x0 (nI Q) (nI R) (nI me) (nI u) (nI p) (nI r) (nI D) (nI aa) (nI idle) (nI t) (nI z) (nI q) := by
  have hR' := rd_oklt hR
  unfold wL_response_76
  rw [rd_shr8 (show R < 2 ^ 31 by omega), rd_and15 (show R < 2 ^ 31 by omega)]
  refine nm_r (nI_add q z) (pk_le R 0 (fun a => ?_) (fun a => ?_))
  · have z0 : R = 0 := by omega
    subst z0
    rw [rd_rl0] at H
    exact rd_103 Q 0 me u p (q + z) r 0 D aa idle t hQ hR' hp hq (by omega) hme hu ht hD ha H
  · have ok : rd_ok R := by
      rcases hR with h | h
      · omega
      · exact h
    have pp := rd_okp ok
    refine ⟨nI_ne0 pp.1 (by omega), pk_eq (t % (R / 256)) 0 (fun b => ?_) (fun b => ?_) (hx := pk_rem ht pp.1 (by omega)) (ha := Nat.lt_of_le_of_lt (Nat.mod_le _ _) ht)⟩
    · rw [show rd_rl R t = R % 16 from if_pos b] at H
      exact rd_103 Q R me u p (q + z) r (R % 16) D aa idle t hQ hR' hp hq (by omega) hme hu ht hD ha H
    · rw [show rd_rl R t = 0 from if_neg b] at H
      exact rd_103 Q R me u p (q + z) r 0 D aa idle t hQ hR' hp hq (by omega) hme hu ht hD ha H
theorem rd_49 (Q R me u p z q r D aa idle t : Nat) (hQ : Q = 0 ∨ rd_ok Q) (hR : R = 0 ∨ rd_ok R) (hp : p + z < 2 ^ 31) (hq : q + 15 < 2 ^ 31) (hr : r + 15 < 2 ^ 31) (hme : me < 2 ^ 31) (hu : u < 2 ^ 31) (ht : t < 2 ^ 31) (hD : D + 1 < 2 ^ 31) (ha : aa < 2 ^ 31)
    (H : rd_nt J me u (rd_turn (p + z) (q + rd_rl Q t) (r + rd_rl R t)) (rd_mine Q R) (p + z) (q + rd_rl Q t) (r + rd_rl R t) D aa idle t) :
    wL_response_49 post J x0 (nI Q) (nI R) (nI me) (nI u) (nI q) (nI r) (nI D) (nI aa) (nI idle) (nI t) (nI z) (nI p) := by
  have hQ' := rd_oklt hQ
  unfold wL_response_49
  rw [rd_shr8 (show Q < 2 ^ 31 by omega), rd_and15 (show Q < 2 ^ 31 by omega)]
  refine nm_r (nI_add p z) (pk_le Q 0 (fun a => ?_) (fun a => ?_))
  · have z0 : Q = 0 := by omega
    subst z0
    rw [rd_rl0] at H
    exact rd_76 0 R me u (p + z) q 0 r D aa idle t hQ' hR hp (by omega) hr hme hu ht hD ha H
  · have ok : rd_ok Q := by
      rcases hQ with h | h
      · omega
      · exact h
    have pp := rd_okp ok
    refine ⟨nI_ne0 pp.1 (by omega), pk_eq (t % (Q / 256)) 0 (fun b => ?_) (fun b => ?_) (hx := pk_rem ht pp.1 (by omega)) (ha := Nat.lt_of_le_of_lt (Nat.mod_le _ _) ht)⟩
    · rw [show rd_rl Q t = Q % 16 from if_pos b] at H
      exact rd_76 Q R me u (p + z) q (Q % 16) r D aa idle t hQ' hR hp (by omega) hr hme hu ht hD ha H
    · rw [show rd_rl Q t = 0 from if_neg b] at H
      exact rd_76 Q R me u (p + z) q 0 r D aa idle t hQ' hR hp (by omega) hr hme hu ht hD ha H
end
/-- the law's response(p, q, r, me, units): the least time and the idle units -/
theorem rd_resp {post : Int32 → Prop} {P Q R u : Nat} (hc : rd_cfg P Q R) (hu : u ≤ 31)
    (H : post (nI (rd_Im (rd_T P Q R) u * 64 + rd_rs (rd_H P Q R) (rd_me P Q R % 16) 32))) :
    wpL_response post () (nI P) (nI Q) (nI R) (nI (rd_me P Q R)) (nI u) := by
  have hme := rd_okp (rd_me_ok hc)
  have hP := rd_okp hc.1
  refine pk_loop (σ := Nat × Nat × Nat × Nat × Nat × Nat) (fun n i s => wL_response_22 post (nI P) (nI Q) (nI R) (nI (rd_me P Q R)) (nI u) n (nI s.1) (nI s.2.1) (nI s.2.2.1) (nI s.2.2.2.1) (nI s.2.2.2.2.1) (nI s.2.2.2.2.2) (nI i))
    (fun i s => rd_inv P Q R u i s.1 s.2.1 s.2.2.1 s.2.2.2.1 s.2.2.2.2.1 s.2.2.2.2.2) 32 0 (0, 0, 0, 0, 63, 0) (by omega) (rd_inv0 hc) ?_ ?_
  · rintro n ⟨wP, wQ, wR, D, aa, idle⟩ h
    have h' : rd_inv P Q R u 32 wP wQ wR D aa idle := h
    show wL_response_22 post (nI P) (nI Q) (nI R) (nI (rd_me P Q R)) (nI u) (n + 1) (nI wP) (nI wQ) (nI wR) (nI D) (nI aa) (nI idle) (nI 32)
    have b := rd_inv_b hc (by omega) h'
    obtain ⟨i1, i2, i3, i4, i5, i6, i7, i8⟩ := h'
    rw [show min 32 u = u by omega] at i6
    have il := rd_Im_le (rd_T P Q R) u
    refine pk_le 32 32 (fun _ => ?_) (fun z => absurd z (by omega))
    rw [rd_or6 idle (by omega) aa (by omega), i6, i7]
    exact H
  · rintro n i ⟨wP, wQ, wR, D, aa, idle⟩ hi h hw
    have h' : rd_inv P Q R u i wP wQ wR D aa idle := h
    show wL_response_22 post (nI P) (nI Q) (nI R) (nI (rd_me P Q R)) (nI u) (n + 1) (nI wP) (nI wQ) (nI wR) (nI D) (nI aa) (nI idle) (nI i)
    have b := rd_inv_b hc (by omega) h'
    have H' := hw (_, _, _, _, _, _) (rd_step hc hi h')
    have H2 : rd_nt (wL_response_22 post (nI P) (nI Q) (nI R) (nI (rd_me P Q R)) (nI u) n) (rd_me P Q R) u (rd_turn (wP + rd_rl P i) (wQ + rd_rl Q i) (wR + rd_rl R i)) (rd_mine Q R) (wP + rd_rl P i) (wQ + rd_rl Q i) (wR + rd_rl R i) D aa idle i := H'
    refine pk_le 32 i (fun z => absurd z (by omega)) (fun _ => ?_)
    rw [rd_shr8 (show P < 2 ^ 31 by omega), rd_and15 (show P < 2 ^ 31 by omega)]
    refine ⟨nI_ne0 hP.1 (by omega), pk_eq (i % (P / 256)) 0 (fun c => ?_) (fun c => ?_) (hx := pk_rem (by omega) hP.1 (by omega)) (ha := Nat.lt_of_le_of_lt (Nat.mod_le _ _) (by omega))⟩
    · rw [show rd_rl P i = P % 16 from if_pos c] at H2
      exact rd_49 Q R (rd_me P Q R) u wP (P % 16) wQ wR D aa idle i hc.2.1 hc.2.2.1 (by omega) (by omega) (by omega) (by omega) (by omega) (by omega) (by omega) (by omega) H2
    · rw [show rd_rl P i = 0 from if_neg c] at H2
      exact rd_49 Q R (rd_me P Q R) u wP 0 wQ wR D aa idle i hc.2.1 hc.2.2.1 (by omega) (by omega) (by omega) (by omega) (by omega) (by omega) (by omega) (by omega) H2
theorem rd_okmk {c d p : Nat} (h1 : 1 ≤ c) (h2 : c ≤ d) (h3 : d ≤ p) (h4 : p ≤ 15) : rd_ok (c + 16 * d + 256 * p) := by
  have e1 : (c + 16 * d + 256 * p) % 16 = c := by omega
  have e2 : (c + 16 * d + 256 * p) / 16 = d + 16 * p := by omega
  have e3 : (c + 16 * d + 256 * p) / 256 = p := by omega
  have e4 : (d + 16 * p) % 16 = d := by omega
  unfold rd_ok
  rw [e1, e2, e3, e4]
  exact ⟨h1, h2, h3, h4⟩
/-- the law's task(v): some task within bounds -/
theorem rd_task {post : Int32 → Prop} {v : Int32} (H : ∀ e, rd_ok e → post (nI e)) : wpL_task post () v := by
  obtain ⟨n, hn, en⟩ := pk_andE v (m := 2147483647) 31 (by decide)
  have d0 : 0 < 1 + n % 15 := by omega
  have hm := Nat.mod_lt (n / 15) d0
  have hd : 0 < 1 + n % 15 - n / 15 % (1 + n % 15) := by omega
  have hk := Nat.mod_lt (n / 225) hd
  generalize hp : 1 + n % 15 = p at d0 hm hd hk
  generalize hdd : p - n / 15 % p = d at hd hk
  generalize hcc : n / 225 % d = c at hk
  unfold wpL_task
  refine nm_r en ⟨by decide, nm_r (e' := nI p) ?_ ⟨by decide, nI_ne0 d0 (by omega), nm_r (e' := nI d) ?_ ⟨by decide, nI_ne0 hd (by omega), nm_r (e' := nI (1 + c)) ?_ ?_⟩⟩⟩
  · rw [← hp, ← nI_add]
    exact congrArg (fun x => (1 : Int32) + x) (pk_rem (d := 15) hn (by omega) (by omega))
  · have q : nI n / 15 = nI (n / 15) := pk_div (d := 15) hn (by omega) (by omega)
    rw [q, pk_rem (by omega) d0 (by omega), pk_sub (by omega), hdd]
  · have q : nI n / 225 = nI (n / 225) := pk_div (d := 225) hn (by omega) (by omega)
    rw [q, pk_rem (by omega) hd (by omega), hcc]
    exact nI_add 1 c
  · have e : nI (1 + c) + 16 * nI d + 256 * nI p = nI (1 + c + 16 * d + 256 * p) := by
      have m1 : 16 * nI d = nI (16 * d) := pk_mul 16 d
      have m2 : 256 * nI p = nI (256 * p) := pk_mul 256 p
      rw [m1, m2, nI_add, nI_add]
    rw [e]
    exact H _ (rd_okmk (by omega) (by omega) (by omega) (by omega))
theorem rd_cell {post : Int32 → Prop} {L : Nat} {xs : Nat → Int32} {j : Nat} (hL : L ≤ 6) (hj : j < 6) (H : ∀ r, post r) : wpL_cellAt post L xs () (nI j) := by
  unfold wpL_cellAt
  exact pk_le L j (fun _ => H _) (fun z => ⟨pk_in j L z, H _⟩)
end
section
theorem rd_bits : ∀ m, m < 32 → ∀ j, j < 5 → ((nI m >>> (nI j &&& 31)) &&& 1) = nI (m / 2 ^ j % 2) := by decide +kernel
theorem rd_byte : ∀ x, x < 128 → (nI x).toInt8.toInt32 = nI x := by decide +kernel
theorem rd_orb : ∀ m, m < 8 → ∀ o, o < 3 → nI m ||| ((1 : Int32) <<< (nI o &&& 31)) = nI (m ||| 2 ^ o) := by decide +kernel
theorem rd_ora : ∀ o, o < 3 → ∀ m, m < 2 ^ o → nI m ||| ((1 : Int32) <<< (nI o &&& 31)) = nI (m + 2 ^ o) := by decide +kernel
theorem rd_or0 (n : Nat) : nI n ||| 0 = nI n := Int32.or_zero
theorem rd_n3 : ∀ n, n < 64 → ¬ nI n = -3 := by decide +kernel
theorem rd_pw : ∀ o, o < 3 → 2 ^ o < 8 := by decide
theorem rd_m2 (n : Nat) : n % 2 = 0 ∨ n % 2 = 1 := by omega
theorem rd_in {post : Int32 → Prop} {m j : Nat} (hm : m < 32) (hj : j < 5) (H : post (nI (m / 2 ^ j % 2))) : wpX_in post () (nI m) (nI j) := by
  unfold wpX_in
  rw [rd_bits m hm j hj]
  rcases rd_m2 (m / 2 ^ j) with e | e
  · rw [e] at H ⊢
    exact br_t rfl H
  · rw [e] at H ⊢
    exact br_f (by decide) H
/-! the class's state: E k is the k-th task (encoded), O i the task at place i -/
def rd_S (E : Nat → Nat) (a1 a2 a3 : Nat → Int32) : Prop := ∀ k, k < 3 → rd_ok (E k) ∧ a1 k = nI (E k % 16) ∧ a2 k = nI (E k / 16 % 16) ∧ a3 k = nI (E k / 256)
def rd_O (O : Nat → Nat) (a4 : Nat → Int32) : Prop := (∀ j, j < 3 → a4 j = nI (O j) ∧ O j < 3) ∧ ∀ i j, i < 3 → j < 3 → O i = O j → i = j
def rd_ct (E : Nat → Nat) (m t k : Nat) : Nat := if m / 2 ^ k % 2 = 1 then rd_W (E k) t else 0
def rd_WS (E : Nat → Nat) (m t : Nat) : Nat := rd_ct E m t 0 + rd_ct E m t 1 + rd_ct E m t 2
def rd_R (E : Nat → Nat) (k m : Nat) : Nat := rd_rs (rd_WS E m) (E k % 16) 32
def rd_it (E : Nat → Nat) (k m : Nat) : Nat := if rd_R E k m ≤ E k / 16 % 16 then 1 else 0
theorem rd_it2 (E : Nat → Nat) (k m : Nat) : rd_it E k m = 0 ∨ rd_it E k m = 1 := by
  unfold rd_it
  split
  · exact Or.inr rfl
  · exact Or.inl rfl
theorem rd_ct_mono {E : Nat → Nat} {k : Nat} (h : rd_ok (E k)) (m : Nat) {a b : Nat} (hab : a ≤ b) : rd_ct E m a k ≤ rd_ct E m b k := by
  unfold rd_ct
  split
  · exact rd_Wmono (Or.inr h) hab
  · exact Nat.le_refl 0
theorem rd_ct_le {E : Nat → Nat} {k : Nat} (h : rd_ok (E k)) (m t : Nat) : rd_ct E m t k ≤ 15 * t := by
  unfold rd_ct
  split
  · exact rd_Wle (Or.inr h) t
  · exact Nat.zero_le _
section
variable {E O : Nat → Nat} {pr ct : Int32} {a1 a2 a3 a4 a5 a6 : Nat → Int32}
theorem rd_WS_mono (hS : rd_S E a1 a2 a3) (m : Nat) {a b : Nat} (hab : a ≤ b) : rd_WS E m a ≤ rd_WS E m b := by
  have h0 := rd_ct_mono (hS 0 (by omega)).1 m hab
  have h1 := rd_ct_mono (hS 1 (by omega)).1 m hab
  have h2 := rd_ct_mono (hS 2 (by omega)).1 m hab
  unfold rd_WS
  omega
theorem rd_WS_le (hS : rd_S E a1 a2 a3) (m t : Nat) : rd_WS E m t ≤ 45 * t := by
  have h0 := rd_ct_le (hS 0 (by omega)).1 m t
  have h1 := rd_ct_le (hS 1 (by omega)).1 m t
  have h2 := rd_ct_le (hS 2 (by omega)).1 m t
  unfold rd_WS
  omega
theorem rd_has {post : Int32 → Prop} {m j : Nat} (hm : m < 32) (hj : j < 5) (H : post (nI (m / 2 ^ j % 2))) : wpX_has post (nI m, ct, a1, a2, a3, a4, a5, a6) (nI j) := by
  unfold wpX_has
  refine br_f (nI_pos (by omega)) (br_f (nI_ge (b := 5) hj (by omega)) ?_)
  rw [rd_bits m hm j hj]
  rcases rd_m2 (m / 2 ^ j) with e | e
  · rw [e] at H ⊢
    exact br_t rfl H
  · rw [e] at H ⊢
    exact br_f (by decide) H
theorem rd_w5 {post : Int32 → Prop} (hS : rd_S E a1 a2 a3) {n s k m t : Nat} (hm : m < 8) (ht : t < 2 ^ 20) (hk : k < 5) (h3 : k < 3 ∨ m / 2 ^ k % 2 = 0)
    (H : wX_workIn_5 post (nI m) (nI t) pr ct a1 a2 a3 a4 a5 a6 n (nI (s + rd_ct E m t k)) (nI (k + 1))) :
    wX_workIn_5 post (nI m) (nI t) pr ct a1 a2 a3 a4 a5 a6 (n + 1) (nI s) (nI k) := by
  refine br_f (nI_ge (b := 5) hk (by omega)) (rd_in (by omega) hk ?_)
  rcases rd_m2 (m / 2 ^ k) with e | e
  · rw [show rd_ct E m t k = 0 from if_neg (by omega)] at H
    rw [e]
    exact br_t rfl (nm_r (nI_1 k) H)
  · rw [show rd_ct E m t k = rd_W (E k) t from if_pos e] at H
    have k3 : k < 3 := by omega
    obtain ⟨ok, q1, q2, q3⟩ := hS k k3
    have pp := rd_okp ok
    rw [e]
    refine br_f (by decide) ⟨pk_in k 5 hk, ?_⟩
    rw [pk_cl (x := nI k) k, q3]
    refine br_f (nI_nle pp.1 (by omega)) ⟨pk_in k 5 hk, ?_⟩
    refine ⟨nI_ne0 pp.1 (by omega), pk_in k 5 hk, nm_r ?_ (nm_r (nI_1 k) H)⟩
    have s1 : nI (t + E k / 256) - 1 = nI (t + E k / 256 - 1) := pk_sub (b := 1) (by omega)
    rw [pk_cl (x := nI k) k, q1, nI_add, s1, pk_div (by omega) pp.1 (by omega), pk_mul, nI_add]
    rfl
/-- workIn(set, t) -/
theorem rd_work {post : Int32 → Prop} (hS : rd_S E a1 a2 a3) {m t : Nat} (hm : m < 8) (ht : t < 2 ^ 20) (H : post (nI (rd_WS E m t))) :
    wpX_workIn post (pr, ct, a1, a2, a3, a4, a5, a6) (nI m) (nI t) := by
  have c3 : m / 2 ^ 3 % 2 = 0 := by omega
  have c4 : m / 2 ^ 4 % 2 = 0 := by omega
  refine ⟨6, rd_w5 (s := 0) (k := 0) hS hm ht (by omega) (Or.inl (by omega)) (rd_w5 hS hm ht (by omega) (Or.inl (by omega)) (rd_w5 hS hm ht (by omega) (Or.inl (by omega)) (rd_w5 hS hm ht (by omega) (Or.inr c3) (rd_w5 hS hm ht (by omega) (Or.inr c4) ?_))))⟩
  rw [show rd_ct E m t (0 + 1 + 1 + 1) = 0 from if_neg (by omega), show rd_ct E m t (0 + 1 + 1 + 1 + 1) = 0 from if_neg (by omega)]
  refine br_t (nI_le (a := 5) (b := 5) (by omega) (by omega)) ?_
  rw [show 0 + rd_ct E m t 0 + rd_ct E m t (0 + 1) + rd_ct E m t (0 + 1 + 1) + 0 + 0 = rd_WS E m t by
    unfold rd_WS
    show 0 + rd_ct E m t 0 + rd_ct E m t 1 + rd_ct E m t 2 + 0 + 0 = _
    omega]
  exact H
/-- responseUnder(k, set) -/
theorem rd_ru {post : Int32 → Prop} (hS : rd_S E a1 a2 a3) {k m : Nat} (hk : k < 3) (hm : m < 8) (H : post (if rd_R E k m ≤ E k / 256 then nI (rd_R E k m) else -3)) :
    wpX_responseUnder post (pr, ct, a1, a2, a3, a4, a5, a6) (nI k) (nI m) := by
  obtain ⟨ok, q1, q2, q3⟩ := hS k hk
  have ok' := ok
  unfold rd_ok at ok'
  refine ⟨pk_in k 5 (by omega), nm_r (e' := nI (E k % 16)) (by rw [pk_cl (x := nI k) k, q1]) ?_⟩
  refine pk_loop (σ := Nat) (fun n i s => wX_responseUnder_10 post (nI k) (nI m) pr ct a1 a2 a3 a4 a5 a6 n (nI s) (nI i))
    (fun i s => i + 1 ≤ s ∧ s ≤ E k / 256 ∧ s ≤ E k % 16 + rd_WS E m s ∧ ∀ S, 1 ≤ S → S < s → S < E k % 16 + rd_WS E m S) 16 0 (E k % 16) (by omega)
    ⟨by omega, by omega, by omega, fun S h1 h2 => by omega⟩ ?_ ?_
  · intro n s h
    have h1 := h.1
    have h2 := h.2.1
    exact absurd h1 (by omega)
  · intro n i s hi h hw
    obtain ⟨h1, h2, h3, h4⟩ := h
    have wl := rd_WS_le hS m s
    show wX_responseUnder_10 post (nI k) (nI m) pr ct a1 a2 a3 a4 a5 a6 (n + 1) (nI s) (nI i)
    refine pk_lt 15 i (fun z => absurd z (by omega)) (fun _ => ⟨pk_in k 5 (by omega), rd_work hS hm (by omega) ?_⟩)
    rw [pk_cl (x := nI k) k, q1, q3]
    refine nm_r (nI_add _ _) (pk_eq (E k % 16 + rd_WS E m s) s (fun e => ?_) (fun e => ⟨pk_in k 5 (by omega), pk_le (E k % 16 + rd_WS E m s) (E k / 256) (fun g => nm_r (nI_1 i) (hw _ ⟨by omega, g, ?_, ?_⟩)) (fun g => ?_)⟩))
    · have q : rd_R E k m = s := rd_rs_hit (by omega) (by omega) (by omega) (by omega) h4
      rw [q, if_pos h2] at H
      exact H
    · have := rd_WS_mono hS m h3
      omega
    · intro S g1 g2
      by_cases z : S < s
      · exact h4 S g1 z
      · have := rd_WS_mono hS m (show s ≤ S by omega)
        omega
    · have q : E k / 256 < rd_R E k m := rd_rs_gt (fun S g1 g2 => by
        by_cases z : S < s
        · exact h4 S g1 z
        · have := rd_WS_mono hS m (show s ≤ S by omega)
          omega) (by omega)
      rw [if_neg (by omega)] at H
      exact H
/-- inTimeUnder(k, set) -/
theorem rd_itu {post : Int32 → Prop} (hS : rd_S E a1 a2 a3) {k m : Nat} (hk : k < 3) (hm : m < 8) (H : post (nI (rd_it E k m))) :
    wpX_inTimeUnder post (pr, ct, a1, a2, a3, a4, a5, a6) (nI k) (nI m) := by
  obtain ⟨ok, q1, q2, q3⟩ := hS k hk
  have ok' := ok
  unfold rd_ok at ok'
  refine rd_ru hS hk hm ?_
  by_cases z : rd_R E k m ≤ E k / 256
  · rw [if_pos z]
    refine br_f (rd_n3 _ (by omega)) ⟨pk_in k 5 (by omega), ?_⟩
    rw [pk_cl (x := nI k) k, q2]
    refine pk_lt (E k / 16 % 16) (rd_R E k m) (fun g => ?_) (fun g => ?_)
    · rw [show rd_it E k m = 0 from if_neg (by omega)] at H
      exact H
    · rw [show rd_it E k m = 1 from if_pos g] at H
      exact H
  · rw [if_neg z]
    rw [show rd_it E k m = 0 from if_neg (by omega)] at H
    exact br_t rfl H
theorem rd_pl {post : Int32 → Prop} {k i : Nat} (hi : i < 3) (hn : ∀ j, j < i → ¬ a4 j = nI k) (hk : a4 i = nI k) (H : post (nI i)) :
    wpX_placeOf post (pr, nI 3, a1, a2, a3, a4, a5, a6) (nI k) := by
  have c2 : nI 3 - 1 = nI 2 := by decide
  refine pk_loop (σ := Unit) (fun n j _ => wX_placeOf_2 post (nI k) pr (nI 3) a1 a2 a3 a4 a5 a6 n (nI j)) (fun _ _ => True) i 0 () (by omega) trivial ?_ ?_
  · intro n _ _
    refine pk_le 2 i (fun _ => H) (fun z => ⟨pk_in i 5 (by omega), br_t ?_ H⟩) (hx := c2)
    rw [pk_cl (x := nI i) i, hk]
  · intro n j _ hj _ hw
    refine pk_le 2 j (fun z => absurd z (by omega)) (fun z => ⟨pk_in j 5 (by omega), br_f ?_ (nm_r (nI_1 j) (hw () trivial))⟩) (hx := c2)
    rw [pk_cl (x := nI j) j]
    exact hn j hj
def rd_mk (O : Nat → Nat) : Nat → Nat
  | 0 => 0
  | i + 1 => rd_mk O i ||| 2 ^ O i
theorem rd_mk_lt (hO : rd_O O a4) {i : Nat} (hi : i ≤ 3) : rd_mk O i < 8 := by
  induction i with
  | zero => show 0 < 8; omega
  | succ i ih => exact Nat.or_lt_two_pow (n := 3) (ih (by omega)) (rd_pw _ (hO.1 i (by omega)).2)
theorem rd_mu {post : Int32 → Prop} (hO : rd_O O a4) {i : Nat} (hi : i < 3) (H : post (nI (rd_mk O i))) :
    wpX_moreUrgent post (pr, nI 3, a1, a2, a3, a4, a5, a6) (nI (O i)) := by
  refine rd_pl (i := i) hi (fun j hj e => ?_) (hO.1 i hi).1 ?_
  · rw [(hO.1 j (by omega)).1] at e
    have b1 := (hO.1 i hi).2
    have b2 := (hO.1 j (by omega)).2
    have := hO.2 j i (by omega) hi ((nI_eq (by omega) (by omega)).mp e)
    omega
  · refine pk_loop (σ := Unit) (fun n j _ => wX_moreUrgent_11 post (nI i) pr (nI 3) a1 a2 a3 a4 a5 a6 n (nI (rd_mk O j)) (nI j)) (fun _ _ => True) i 0 () (by omega) trivial ?_ ?_
    · intro n _ _
      exact pk_le i i (fun _ => H) (fun z => absurd z (by omega))
    · intro n j _ hj _ hw
      refine pk_le i j (fun z => absurd z (by omega)) (fun z => ⟨pk_in j 5 (by omega), nm_r (e' := nI (rd_mk O (j + 1))) ?_ (nm_r (nI_1 j) (hw () trivial))⟩)
      have o := hO.1 j (by omega)
      rw [pk_cl (x := nI j) j, o.1]
      exact rd_orb _ (rd_mk_lt hO (by omega)) _ o.2
theorem rd_at {post : Int32 → Prop} (hO : rd_O O a4) {i : Nat} (hi : i < 3) (H : post (nI (O i))) :
    wpX_at post (pr, nI 3, a1, a2, a3, a4, a5, a6) (nI i) := by
  unfold wpX_at
  refine br_f (nI_pos (by omega)) (pk_lt i 3 (fun _ => ⟨pk_in i 5 (by omega), ?_⟩) (fun z => absurd z (by omega)))
  rw [pk_cl (x := nI i) i, (hO.1 i hi).1]
  exact H
theorem rd_idle {post : Int32 → Prop} (hS : rd_S E a1 a2 a3) {u : Nat} (hu : u ≤ 31) (H : post (nI (rd_Im (rd_WS E 7) u))) :
    wpX_idle post (nI 7, ct, a1, a2, a3, a4, a5, a6) (nI u) := by
  refine pk_loop (σ := Unit) (fun n i _ => wX_idle_4 post (nI u) (nI 7) ct a1 a2 a3 a4 a5 a6 n (nI (rd_Im (rd_WS E 7) i)) (nI (i + 1))) (fun _ _ => True) u 0 () (by omega) trivial ?_ ?_
  · intro n _ _
    exact pk_lt u (u + 1) (fun _ => H) (fun z => absurd z (by omega))
  · intro n i _ hi _ hw
    have hw' := hw () trivial
    have wl := rd_WS_le hS 7 (i + 1)
    have il := rd_Im_le (rd_WS E 7) i
    have hs := rd_Im_s (rd_WS E 7) i
    refine pk_lt u (i + 1) (fun z => absurd z (by omega)) (fun _ => pk_lt 60 (i + 1) (fun z => absurd z (by omega)) (fun _ => rd_work hS (by omega) (by omega) ?_))
    by_cases g : rd_WS E 7 (i + 1) ≤ i + 1
    · refine nm_r (pk_sub g) (pk_le (i + 1 - rd_WS E 7 (i + 1)) (rd_Im (rd_WS E 7) i) (fun z => nm_r (nI_1 (i + 1)) ?_) (fun z => nm_r (nI_1 (i + 1)) ?_))
      · rw [show rd_Im (rd_WS E 7) (i + 1) = rd_Im (rd_WS E 7) i by omega] at hw'
        exact hw'
      · rw [show rd_Im (rd_WS E 7) (i + 1) = i + 1 - rd_WS E 7 (i + 1) by omega] at hw'
        exact hw'
    · refine nm_e (br_t ?_ (nm_r (nI_1 (i + 1)) ?_))
      · rw [Int32.le_iff_toInt_le, pk_sub_toInt (by omega) (by omega), nI_toInt (by omega)]
        omega
      · rw [show rd_Im (rd_WS E 7) (i + 1) = rd_Im (rd_WS E 7) i by omega] at hw'
        exact hw'
theorem rd_response {post : Int32 → Prop} (hS : rd_S E a1 a2 a3) (hO : rd_O O a4) {i : Nat} (hi : i < 3)
    (H : post (if rd_R E (O i) (rd_mk O i) ≤ E (O i) / 256 then nI (rd_R E (O i) (rd_mk O i)) else -3)) :
    wpX_response post (nI 7, nI 3, a1, a2, a3, a4, a5, a6) (nI (O i)) := by
  have o := (hO.1 i hi).2
  unfold wpX_response
  refine rd_has (m := 7) (j := O i) (by omega) (by omega) ?_
  have b : ∀ j, j < 3 → 7 / 2 ^ j % 2 = 1 := by decide
  rw [b _ o]
  exact br_f (by decide) (rd_mu hO hi (rd_ru hS o (rd_mk_lt hO (by omega)) H))
theorem rd_iT {post : Int32 → Prop} (hS : rd_S E a1 a2 a3) (hO : rd_O O a4) {n s k i : Nat} (hi : i < 3) (ho : O i = k) (hs : s < 2 ^ k)
    (H : wX_inTime_4 post (nI 7) (nI 3) a1 a2 a3 a4 a5 a6 n (nI (s + rd_it E k (rd_mk O i) * 2 ^ k)) (nI (k + 1))) :
    wX_inTime_4 post (nI 7) (nI 3) a1 a2 a3 a4 a5 a6 (n + 1) (nI s) (nI k) := by
  have o := (hO.1 i hi).2
  have k3 : k < 3 := by omega
  have b : ∀ j, j < 3 → 7 / 2 ^ j % 2 = 1 := by decide
  refine br_f (nI_ge (b := 5) (by omega) (by omega)) (rd_has (by omega) (by omega) ?_)
  rw [b _ k3]
  refine br_f (by decide) ?_
  have M : ∀ ψ : Int32 → Prop, ψ (nI (rd_mk O i)) → wpX_moreUrgent ψ (nI 7, nI 3, a1, a2, a3, a4, a5, a6) (nI k) := fun ψ h => ho ▸ rd_mu hO hi h
  refine M _ (rd_itu hS k3 (rd_mk_lt hO (by omega)) ?_)
  rcases rd_it2 E k (rd_mk O i) with e | e
  · rw [e] at H ⊢
    rw [Nat.zero_mul] at H
    exact br_t rfl (nm_r (rd_or0 s) (nm_r (nI_1 k) H))
  · rw [e] at H ⊢
    rw [Nat.one_mul] at H
    exact br_f (by decide) (nm_r (rd_ora k k3 s hs) (nm_r (nI_1 k) H))
/-- inTime(): ix k is the place of task k -/
theorem rd_inTime {post : Int32 → Prop} {ix : Nat → Nat} (hS : rd_S E a1 a2 a3) (hO : rd_O O a4) (hx : ∀ k, k < 3 → ix k < 3 ∧ O (ix k) = k)
    (H : post (nI (rd_it E 0 (rd_mk O (ix 0)) + rd_it E 1 (rd_mk O (ix 1)) * 2 + rd_it E 2 (rd_mk O (ix 2)) * 4))) :
    wpX_inTime post (nI 7, nI 3, a1, a2, a3, a4, a5, a6) := by
  have i0 := rd_it2 E 0 (rd_mk O (ix 0))
  have i1 := rd_it2 E 1 (rd_mk O (ix 1))
  have i2 := rd_it2 E 2 (rd_mk O (ix 2))
  have x0 := hx 0 (by omega)
  have x1 := hx 1 (by omega)
  have x2 := hx 2 (by omega)
  have b3 : (7 : Nat) / 2 ^ 3 % 2 = 0 := by decide
  have b4 : (7 : Nat) / 2 ^ 4 % 2 = 0 := by decide
  refine ⟨6, rd_iT (s := 0) (k := 0) hS hO x0.1 x0.2 (by omega) (rd_iT (k := 1) hS hO x1.1 x1.2 (by omega) (rd_iT (k := 2) hS hO x2.1 x2.2 (by omega) ?_))⟩
  refine br_f (nI_ge (a := 3) (b := 5) (by omega) (by omega)) (rd_has (m := 7) (j := 3) (by omega) (by omega) ?_)
  rw [b3]
  refine br_t rfl (nm_r (nI_1 3) ?_)
  refine br_f (nI_ge (a := 4) (b := 5) (by omega) (by omega)) (rd_has (m := 7) (j := 4) (by omega) (by omega) ?_)
  rw [b4]
  refine br_t rfl (nm_r (nI_1 4) ?_)
  refine br_t (nI_le (a := 5) (b := 5) (by omega) (by omega)) ?_
  rw [show 0 + rd_it E 0 (rd_mk O (ix 0)) * 2 ^ 0 + rd_it E 1 (rd_mk O (ix 1)) * 2 ^ 1 + rd_it E 2 (rd_mk O (ix 2)) * 2 ^ 2 = rd_it E 0 (rd_mk O (ix 0)) + rd_it E 1 (rd_mk O (ix 1)) * 2 + rd_it E 2 (rd_mk O (ix 2)) * 4 by omega]
  exact H
theorem rd_good {post : Int32 → Prop} {ix : Nat → Nat} (hS : rd_S E a1 a2 a3) (hO : rd_O O a4) (hx : ∀ k, k < 3 → ix k < 3 ∧ O (ix k) = k)
    (H : post (nI (if rd_it E 0 (rd_mk O (ix 0)) + rd_it E 1 (rd_mk O (ix 1)) * 2 + rd_it E 2 (rd_mk O (ix 2)) * 4 = 7 then 1 else 0))) :
    wpX_good post (nI 7, nI 3, a1, a2, a3, a4, a5, a6) := by
  have i0 := rd_it2 E 0 (rd_mk O (ix 0))
  have i1 := rd_it2 E 1 (rd_mk O (ix 1))
  have i2 := rd_it2 E 2 (rd_mk O (ix 2))
  refine rd_inTime hS hO hx (pk_eq (rd_it E 0 (rd_mk O (ix 0)) + rd_it E 1 (rd_mk O (ix 1)) * 2 + rd_it E 2 (rd_mk O (ix 2)) * 4) 7 (fun e => ?_) (fun e => ?_))
  · rw [if_pos e] at H
    exact H
  · rw [if_neg e] at H
    exact H
end
end
section
theorem rd_nar (j : Nat) (h : j < 128) : vp_nar .byte (nI j) = nI j := by
  rw [vp_nar_byte, rd_byte j h]
theorem rd_hb0 : ∀ k, k < 3 → (2 ^ k - 1) / 2 ^ k % 2 = 0 := by decide
theorem rd_hb1 : ∀ k, k < 3 → ∀ j, j < k → (2 ^ k - 1) / 2 ^ j % 2 = 1 := by decide
theorem rd_hbl : ∀ k, k < 3 → 2 ^ k - 1 < 32 := by decide
theorem rd_hor : ∀ k, k < 3 → nI (2 ^ k - 1) ||| ((1 : Int32) <<< (nI k &&& 31)) = nI (2 ^ (k + 1) - 1) := by decide +kernel
section
variable {E O : Nat → Nat} {pr ct : Int32} {a1 a2 a3 a4 a5 a6 : Nat → Int32}
theorem rd_nok {post : Int32 → Prop} {c d p : Nat} (h1 : 1 ≤ c) (h2 : c ≤ d) (h3 : d ≤ p) (h4 : p ≤ 15) (H : post 1) : wpX_numbersOk post () (nI c) (nI d) (nI p) :=
  pk_lt c 1 (fun z => absurd z (by omega)) (fun _ => pk_lt d c (fun z => absurd z (by omega)) (fun _ => pk_lt p d (fun z => absurd z (by omega)) (fun _ => pk_lt 15 p (fun z => absurd z (by omega)) (fun _ => H))))
/-- add of the k-th task -/
theorem rd_add {post : Int32 → St2 → Prop} {k e : Nat} (hk : k < 3) (he : rd_ok e)
    (H : post (nI k) (nI (2 ^ (k + 1) - 1), nI (k + 1), upd a1 k (nI (e % 16)), upd a2 k (nI (e / 16 % 16)), upd a3 k (nI (e / 256)), upd a4 k (nI k), a5, a6)) :
    wpX_add post (nI (2 ^ k - 1), nI k, a1, a2, a3, a4, a5, a6) (nI e &&& 15) ((nI e >>> ((4 : Int32) &&& 31)) &&& 15) (nI e >>> ((8 : Int32) &&& 31)) := by
  have pp := rd_okp he
  have he' := he
  unfold rd_ok at he'
  rw [rd_and15 (show e < 2 ^ 31 by omega), rd_shr4 (show e < 2 ^ 31 by omega), rd_shr8 (show e < 2 ^ 31 by omega), rd_and15 (show e / 16 < 2 ^ 31 by omega)]
  unfold wpX_add
  refine rd_nok (by omega) (by omega) (by omega) (by omega) (br_f (by decide) ?_)
  refine pk_loop (σ := Unit) (fun n j _ => wX_add_14 post (nI (e % 16)) (nI (e / 16 % 16)) (nI (e / 256)) (nI (2 ^ k - 1)) (nI k) a1 a2 a3 a4 a5 a6 n (nI j)) (fun _ _ => True) k 0 () (by omega) trivial ?_ ?_
  · intro n _ _
    refine br_f (nI_ge (b := 5) (by omega) (by omega)) (rd_has (m := 2 ^ k - 1) (j := k) (rd_hbl k hk) (by omega) ?_)
    rw [rd_hb0 k hk, rd_hor k hk, pk_cl (x := nI k) k, rd_byte _ (show e % 16 < 128 by omega), rd_byte _ (show e / 16 % 16 < 128 by omega), rd_byte _ (show e / 256 < 128 by omega), rd_byte _ (show k < 128 by omega)]
    exact br_t rfl (nm_e ⟨pk_in k 5 (by omega), nm_e ⟨pk_in k 5 (by omega), nm_e ⟨pk_in k 5 (by omega), nm_e ⟨pk_in k 5 (by omega), nm_e (nm_r (nI_1 k) H)⟩⟩⟩⟩)
  · intro n j _ hj _ hw
    refine br_f (nI_ge (b := 5) (by omega) (by omega)) (rd_has (m := 2 ^ k - 1) (j := j) (rd_hbl k hk) (by omega) ?_)
    rw [rd_hb1 k hk j hj]
    exact br_f (by decide) (nm_r (nI_1 j) (hw () trivial))
theorem rd_28s {post : Int32 → St2 → Prop} {x1 v : Int32} {i to n : Nat} (hi : i < to) (ht : to < 3) (hv : vp_nar .byte (a4 (i + 1)) = v)
    (H : wX_place_28 post x1 (nI to) pr ct n (nI (i + 1)) a1 a2 a3 (upd a4 i v) a5 a6) : wX_place_28 post x1 (nI to) pr ct (n + 1) (nI i) a1 a2 a3 a4 a5 a6 := by
  refine pk_le to i (fun z => absurd z (by omega)) (fun _ => ⟨pk_in (i + 1) 5 (by omega) (hx := nI_1 i), pk_in i 5 (by omega), nm_r (e' := upd a4 i v) ?_ (nm_r (nI_1 i) H)⟩)
  rw [pk_cl (x := nI i) i, pk_cl (x := nI i + 1) (i + 1) (hx := nI_1 i), hv]
theorem rd_28e {post : Int32 → St2 → Prop} {x1 : Int32} {i to n : Nat} (hi : to ≤ i) (ht : i < 3)
    (H : ∃ n, wX_place_53 post x1 (nI to) pr ct n (nI i) a1 a2 a3 a4 a5 a6) : wX_place_28 post x1 (nI to) pr ct (n + 1) (nI i) a1 a2 a3 a4 a5 a6 :=
  pk_le to i (fun _ => H) (fun z => absurd z (by omega))
theorem rd_53s {post : Int32 → St2 → Prop} {x1 v : Int32} {i to n : Nat} (hi : to ≤ i) (ht : i < 2) (hv : vp_nar .byte (a4 i) = v)
    (H : wX_place_53 post x1 (nI to) pr ct n (nI i) a1 a2 a3 (upd a4 (i + 1) v) a5 a6) : wX_place_53 post x1 (nI to) pr ct (n + 1) (nI (i + 1)) a1 a2 a3 a4 a5 a6 := by
  refine pk_le (i + 1) to (fun z => absurd z (by omega)) (fun _ => ⟨pk_in i 5 (by omega) (hx := nI_pred i), pk_in (i + 1) 5 (by omega), nm_r (e' := upd a4 (i + 1) v) ?_ (nm_r (pk_m1 i) H)⟩)
  rw [pk_cl (x := nI (i + 1)) (i + 1), pk_cl (x := nI (i + 1) - 1) i (hx := nI_pred i), hv]
theorem rd_53e {post : Int32 → St2 → Prop} {k i to n : Nat} (hi : i ≤ to) (ht : to < 3) (hk : k < 3)
    (H : post 1 (pr, ct, a1, a2, a3, upd a4 to (nI k), a5, a6)) : wX_place_53 post (nI k) (nI to) pr ct (n + 1) (nI i) a1 a2 a3 a4 a5 a6 := by
  refine pk_le i to (fun _ => ⟨pk_in to 5 (by omega), nm_r (e' := upd a4 to (nI k)) ?_ H⟩) (fun z => absurd z (by omega))
  rw [pk_cl (x := nI to) to, rd_byte k (by omega)]
/-- place(who, to) over the order 0, 1, 2: what it comes to is given by cases -/
theorem rd_place0 {post : Int32 → St2 → Prop} {who to : Nat} (hw : who < 3) (ht : to < 3) (h0 : a4 0 = nI 0) (h1 : a4 1 = nI 1) (h2 : a4 2 = nI 2)
    (H : ∃ n, wX_place_28 post (nI who) (nI to) (nI 7) (nI 3) n (nI who) a1 a2 a3 a4 a5 a6) : wpX_place post (nI 7, nI 3, a1, a2, a3, a4, a5, a6) (nI who) (nI to) := by
  have b : ∀ j, j < 3 → 7 / 2 ^ j % 2 = 1 := by decide
  have h : ∀ j, j < 3 → a4 j = nI j := fun j hj => co_3 (P := fun j => a4 j = nI j) h0 h1 h2 hj
  unfold wpX_place
  refine rd_has (m := 7) (j := who) (by omega) (by omega) ?_
  rw [b who hw]
  refine br_f (by decide) (br_f (nI_pos (by omega)) (pk_lt to 3 (fun _ => rd_pl (i := who) hw (fun j hj e => ?_) (h who hw) H) (fun z => absurd z (by omega))))
  rw [h j (by omega), nI_eq (by omega) (by omega)] at e
  omega
theorem rd_place {post : Int32 → St2 → Prop} {who to : Nat} (hw : who < 3) (ht : to < 3) (h0 : a4 0 = nI 0) (h1 : a4 1 = nI 1) (h2 : a4 2 = nI 2)
    (H : ∀ (b : Nat → Int32) (x y z o : Nat), o = (if who = 0 then 1 else 0) → x = (if to = 0 then who else o) → y = (if to = 1 then who else if to = 0 then o else 3 - who - o) → z = 3 - x - y →
      b 0 = nI x → b 1 = nI y → b 2 = nI z → post 1 (nI 7, nI 3, a1, a2, a3, b, a5, a6)) :
    wpX_place post (nI 7, nI 3, a1, a2, a3, a4, a5, a6) (nI who) (nI to) := by
  have n0 := rd_nar 0 (by omega)
  have n1 := rd_nar 1 (by omega)
  have n2 := rd_nar 2 (by omega)
  refine rd_place0 hw ht h0 h1 h2 ?_
  have cw : who = 0 ∨ who = 1 ∨ who = 2 := by omega
  have cc : to = 0 ∨ to = 1 ∨ to = 2 := by omega
  rcases cw with rfl | rfl | rfl <;> rcases cc with rfl | rfl | rfl
  · exact ⟨1, rd_28e (by omega) (by omega) ⟨1, rd_53e (by omega) (by omega) (by omega) (H _ 0 1 2 1 rfl rfl rfl rfl pk_us ((pk_un (by decide)).trans h1) ((pk_un (by decide)).trans h2))⟩⟩
  · exact ⟨2, rd_28s (v := nI 1) (by omega) (by omega) (by rw [h1, n1]) (rd_28e (by omega) (by omega) ⟨1, rd_53e (by omega) (by omega) (by omega) (H _ 1 0 2 1 rfl rfl rfl rfl ((pk_un (by decide)).trans pk_us) pk_us ((pk_un (by decide)).trans ((pk_un (by decide)).trans h2)))⟩)⟩
  · exact ⟨3, rd_28s (v := nI 1) (by omega) (by omega) (by rw [h1, n1]) (rd_28s (v := nI 2) (by omega) (by omega) (by rw [pk_un (by decide), h2, n2]) (rd_28e (by omega) (by omega) ⟨1, rd_53e (by omega) (by omega) (by omega) (H _ 1 2 0 1 rfl rfl rfl rfl ((pk_un (by decide)).trans ((pk_un (by decide)).trans pk_us)) ((pk_un (by decide)).trans pk_us) pk_us)⟩))⟩
  · exact ⟨1, rd_28e (by omega) (by omega) ⟨2, rd_53s (i := 0) (v := nI 0) (by omega) (by omega) (by rw [h0, n0]) (rd_53e (by omega) (by omega) (by omega) (H _ 1 0 2 0 rfl rfl rfl rfl pk_us ((pk_un (by decide)).trans pk_us) ((pk_un (by decide)).trans ((pk_un (by decide)).trans h2))))⟩⟩
  · exact ⟨1, rd_28e (by omega) (by omega) ⟨1, rd_53e (by omega) (by omega) (by omega) (H _ 0 1 2 0 rfl rfl rfl rfl ((pk_un (by decide)).trans h0) pk_us ((pk_un (by decide)).trans h2))⟩⟩
  · exact ⟨2, rd_28s (v := nI 2) (by omega) (by omega) (by rw [h2, n2]) (rd_28e (by omega) (by omega) ⟨1, rd_53e (by omega) (by omega) (by omega) (H _ 0 2 1 0 rfl rfl rfl rfl ((pk_un (by decide)).trans ((pk_un (by decide)).trans h0)) ((pk_un (by decide)).trans pk_us) pk_us)⟩)⟩
  · exact ⟨1, rd_28e (by omega) (by omega) ⟨3, rd_53s (i := 1) (v := nI 1) (by omega) (by omega) (by rw [h1, n1]) (rd_53s (i := 0) (v := nI 0) (by omega) (by omega) (by rw [pk_un (by decide), h0, n0]) (rd_53e (by omega) (by omega) (by omega) (H _ 2 0 1 0 rfl rfl rfl rfl pk_us ((pk_un (by decide)).trans pk_us) ((pk_un (by decide)).trans ((pk_un (by decide)).trans pk_us)))))⟩⟩
  · exact ⟨1, rd_28e (by omega) (by omega) ⟨2, rd_53s (i := 1) (v := nI 1) (by omega) (by omega) (by rw [h1, n1]) (rd_53e (by omega) (by omega) (by omega) (H _ 0 2 1 0 rfl rfl rfl rfl ((pk_un (by decide)).trans ((pk_un (by decide)).trans h0)) pk_us ((pk_un (by decide)).trans pk_us)))⟩⟩
  · exact ⟨1, rd_28e (by omega) (by omega) ⟨1, rd_53e (by omega) (by omega) (by omega) (H _ 0 1 2 0 rfl rfl rfl rfl ((pk_un (by decide)).trans h0) ((pk_un (by decide)).trans h1) pk_us)⟩⟩
end
end
section
/-! fill's tables: rd_bl (below), rd_am (among), for sets of the three tasks -/
def rd_b1 (E : Nat → Nat) : Nat := rd_it E 1 1 * rd_it E 2 3 + rd_it E 2 1 * rd_it E 1 5
def rd_b2 (E : Nat → Nat) : Nat := rd_it E 0 2 * rd_it E 2 3 + rd_it E 2 2 * rd_it E 0 6
def rd_b4 (E : Nat → Nat) : Nat := rd_it E 0 4 * rd_it E 1 5 + rd_it E 1 4 * rd_it E 0 6
def rd_b0 (E : Nat → Nat) : Nat := rd_it E 0 0 * rd_b1 E + rd_it E 1 0 * rd_b2 E + rd_it E 2 0 * rd_b4 E
def rd_bl (E : Nat → Nat) (s : Nat) : Nat :=
  if s = 7 then 1 else if s = 6 then rd_it E 0 6 else if s = 5 then rd_it E 1 5 else if s = 4 then rd_b4 E else if s = 3 then rd_it E 2 3 else if s = 2 then rd_b2 E else if s = 1 then rd_b1 E else rd_b0 E
def rd_cb (E : Nat → Nat) (s k : Nat) : Nat := if (7 - s % 8) / 2 ^ k % 2 = 1 then rd_it E k s * rd_bl E (s ||| 2 ^ k) else 0
def rd_m3 (E : Nat → Nat) : Nat := rd_it E 0 2 * rd_it E 1 0 + rd_it E 1 1 * rd_it E 0 0
def rd_m5 (E : Nat → Nat) : Nat := rd_it E 0 4 * rd_it E 2 0 + rd_it E 2 1 * rd_it E 0 0
def rd_m6 (E : Nat → Nat) : Nat := rd_it E 1 4 * rd_it E 2 0 + rd_it E 2 2 * rd_it E 1 0
def rd_m7 (E : Nat → Nat) : Nat := rd_it E 0 6 * rd_m6 E + rd_it E 1 5 * rd_m5 E + rd_it E 2 3 * rd_m3 E
def rd_am (E : Nat → Nat) (s : Nat) : Nat :=
  if s = 0 then 1 else if s = 1 then rd_it E 0 0 else if s = 2 then rd_it E 1 0 else if s = 3 then rd_m3 E else if s = 4 then rd_it E 2 0 else if s = 5 then rd_m5 E else if s = 6 then rd_m6 E else rd_m7 E
def rd_ca (E : Nat → Nat) (s k : Nat) : Nat := if s % 8 / 2 ^ k % 2 = 1 then rd_it E k (s - 2 ^ k) * rd_am E (s - 2 ^ k) else 0
theorem rd_c8 {s : Nat} (h : s < 8) : s = 0 ∨ s = 1 ∨ s = 2 ∨ s = 3 ∨ s = 4 ∨ s = 5 ∨ s = 6 ∨ s = 7 := by omega
theorem rd_bl_eq (E : Nat → Nat) {s : Nat} (h : s < 8) : (if s = 7 then 1 else 0) + rd_cb E s 0 + rd_cb E s 1 + rd_cb E s 2 + rd_cb E s 3 + rd_cb E s 4 = rd_bl E s := by
  rcases rd_c8 h with rfl | rfl | rfl | rfl | rfl | rfl | rfl | rfl <;> simp [rd_cb, rd_bl, rd_b0, rd_b1, rd_b2, rd_b4]
theorem rd_am_eq (E : Nat → Nat) {s : Nat} (h : s < 8) : (if s = 0 then 1 else 0) + rd_ca E s 0 + rd_ca E s 1 + rd_ca E s 2 + rd_ca E s 3 + rd_ca E s 4 = rd_am E s := by
  rcases rd_c8 h with rfl | rfl | rfl | rfl | rfl | rfl | rfl | rfl <;> simp [rd_ca, rd_am, rd_m3, rd_m5, rd_m6, rd_m7]
theorem rd_nb : ∀ s, s < 32 → nI 7 &&& (nI s ^^^ (-1)) = nI (7 - s % 8) := by decide +kernel
theorem rd_np : ∀ s, s < 32 → ((nI s &&& (nI 7 ^^^ (-1))) = 0 ↔ s < 8) := by decide +kernel
theorem rd_and7 : ∀ s, s < 32 → nI s &&& nI 7 = nI (s % 8) := by decide +kernel
def rd_re (s k : Nat) : Nat := if s / 2 ^ k % 2 = 1 then s - 2 ^ k else s
theorem rd_rest : ∀ s, s < 32 → ∀ k, k < 5 → nI s &&& (((1 : Int32) <<< (nI k &&& 31)) ^^^ (-1)) = nI (rd_re s k) := by decide +kernel
theorem rd_re32 : ∀ s, s < 32 → ∀ k, k < 5 → rd_re s k < 32 := by decide +kernel
theorem rd_re8 : ∀ s, s < 8 → ∀ k, k < 5 → s % 8 / 2 ^ k % 2 = 1 → rd_re s k = s - 2 ^ k ∧ s - 2 ^ k < s := by decide +kernel
theorem rd_k3 : ∀ m, m < 8 → ∀ k, k < 5 → m / 2 ^ k % 2 = 1 → k < 3 := by decide +kernel
theorem rd_up : ∀ s, s < 8 → ∀ k, k < 3 → (7 - s % 8) / 2 ^ k % 2 = 1 → s < s ||| 2 ^ k ∧ s ||| 2 ^ k < 8 := by decide +kernel
section
variable {E O : Nat → Nat} {a1 a2 a3 a4 a5 a6 : Nat → Int32} {post : St2 → Prop} {J : Int32 → (Nat → Int32) → (Nat → Int32) → (Nat → Int32) → (Nat → Int32) → (Nat → Int32) → (Nat → Int32) → Prop}
theorem rd_f28 (hS : rd_S E a1 a2 a3) {n s k acc : Nat} (hs : s < 32) (hk : k < 5) (I1 : ∀ j, s < j → j < 8 → a5 j = nI (rd_bl E j)) (I2 : s < 8 → a5 s = nI acc)
    (H : ∀ b : Nat → Int32, (∀ j, s < j → j < 8 → b j = nI (rd_bl E j)) → (s < 8 → b s = nI (acc + rd_cb E s k)) → wX_fill_28 post J (nI s) (nI 7) (nI 3) n (nI (k + 1)) a1 a2 a3 a4 b a6) :
    wX_fill_28 post J (nI s) (nI 7) (nI 3) (n + 1) (nI k) a1 a2 a3 a4 a5 a6 := by
  refine br_f (nI_ge (b := 5) hk (by omega)) ?_
  rw [rd_nb s hs]
  refine rd_in (by omega) hk ?_
  rcases rd_m2 ((7 - s % 8) / 2 ^ k) with e | e
  · rw [e]
    refine br_t rfl (nm_r (nI_1 k) (H a5 I1 (fun h => ?_)))
    rw [show rd_cb E s k = 0 from if_neg (by omega)]
    exact I2 h
  · have k3 : k < 3 := rd_k3 _ (by omega) k hk e
    rw [e]
    refine br_f (by decide) ?_
    by_cases s8 : s < 8
    · refine br_t ((rd_np s hs).mpr s8) (rd_itu hS k3 s8 ?_)
      have ec : rd_cb E s k = rd_it E k s * rd_bl E (s ||| 2 ^ k) := if_pos e
      rcases rd_it2 E k s with g | g
      · rw [g]
        refine br_t rfl (nm_r (nI_1 k) (H a5 I1 (fun h => ?_)))
        rw [ec, g, Nat.zero_mul]
        exact I2 h
      · have up := rd_up s s8 k k3 e
        rw [g, rd_orb s s8 k k3, pk_cl (x := nI s) s, pk_cl (x := nI (s ||| 2 ^ k)) (s ||| 2 ^ k)]
        refine br_f (by decide) ⟨pk_in s 32 hs, pk_in (s ||| 2 ^ k) 32 (by omega), pk_in s 32 hs, nm_e (nm_r (nI_1 k) (H _ (fun j h1 h2 => ?_) (fun h => ?_)))⟩
        · rw [pk_un (by omega)]
          exact I1 j h1 h2
        · rw [pk_us, I2 h, I1 _ up.1 up.2, nI_add, ec, g, Nat.one_mul]
    · exact br_f (fun z => s8 ((rd_np s hs).mp z)) (nm_r (nI_1 k) (H a5 I1 (fun h => absurd h s8)))
theorem rd_f28a (hS : rd_S E a1 a2 a3) {s : Nat} (hs : s < 32) (I1 : ∀ j, s < j → j < 8 → a5 j = nI (rd_bl E j)) (I2 : a5 s = nI (if s = 7 then 1 else 0))
    (H : ∀ b : Nat → Int32, (∀ j, s ≤ j → j < 8 → b j = nI (rd_bl E j)) → J (nI s + (-1)) a1 a2 a3 a4 b a6) :
    ∃ n, wX_fill_28 post J (nI s) (nI 7) (nI 3) n 0 a1 a2 a3 a4 a5 a6 := by
  refine ⟨6, rd_f28 (k := 0) hS hs (by omega) I1 (fun _ => I2) (fun b0 I1 I2 => rd_f28 (k := 1) hS hs (by omega) I1 I2 (fun b1 I1 I2 => rd_f28 (k := 2) hS hs (by omega) I1 I2 (fun b2 I1 I2 => rd_f28 (k := 3) hS hs (by omega) I1 I2 (fun b3 I1 I2 => rd_f28 (k := 4) hS hs (by omega) I1 I2 (fun b I1 I2 => ?_)))))⟩
  refine br_t (nI_le (a := 5) (b := 5) (by omega) (by omega)) (nm_e (H b (fun j h1 h2 => ?_)))
  by_cases e : s = j
  · subst e
    rw [← rd_bl_eq E h2]
    exact I2 h2
  · exact I1 j (by omega) h2
theorem rd_f124 (hS : rd_S E a1 a2 a3) {n s k acc : Nat} (hs : s < 32) (hk : k < 5) (I1 : ∀ j, j < s → j < 8 → a6 j = nI (rd_am E j)) (I2 : s < 8 → a6 s = nI acc)
    (H : ∀ b : Nat → Int32, (∀ j, j < s → j < 8 → b j = nI (rd_am E j)) → (s < 8 → b s = nI (acc + rd_ca E s k)) → wX_fill_124 post J (nI s) (nI 7) (nI 3) n (nI (k + 1)) a1 a2 a3 a4 a5 b) :
    wX_fill_124 post J (nI s) (nI 7) (nI 3) (n + 1) (nI k) a1 a2 a3 a4 a5 a6 := by
  refine br_f (nI_ge (b := 5) hk (by omega)) (nm_r (rd_rest s hs k hk) ?_)
  have r32 := rd_re32 s hs k hk
  rw [rd_and7 s hs, rd_and7 _ r32]
  refine rd_in (by omega) hk ?_
  rcases rd_m2 (s % 8 / 2 ^ k) with e | e
  · rw [e]
    refine br_t rfl (nm_r (nI_1 k) (H a6 I1 (fun h => ?_)))
    rw [show rd_ca E s k = 0 from if_neg (by omega)]
    exact I2 h
  · have k3 : k < 3 := rd_k3 _ (by omega) k hk e
    rw [e]
    refine br_f (by decide) (rd_itu hS k3 (by omega) ?_)
    have ec : rd_ca E s k = rd_it E k (s - 2 ^ k) * rd_am E (s - 2 ^ k) := if_pos e
    rcases rd_it2 E k (rd_re s k % 8) with g | g
    · rw [g]
      refine br_t rfl (nm_r (nI_1 k) (H a6 I1 (fun h => ?_)))
      have r8 := rd_re8 s h k hk e
      rw [r8.1, Nat.mod_eq_of_lt (by omega)] at g
      rw [ec, g, Nat.zero_mul]
      exact I2 h
    · rw [g, pk_cl (x := nI s) s, pk_cl (x := nI (rd_re s k)) (rd_re s k)]
      refine br_f (by decide) ⟨pk_in s 32 hs, pk_in (rd_re s k) 32 r32, pk_in s 32 hs, nm_e (nm_r (nI_1 k) (H _ (fun j h1 h2 => ?_) (fun h => ?_)))⟩
      · rw [pk_un (by omega)]
        exact I1 j h1 h2
      · have r8 := rd_re8 s h k hk e
        rw [r8.1, Nat.mod_eq_of_lt (by omega)] at g
        rw [pk_us, I2 h, r8.1, I1 _ r8.2 (by omega), nI_add, ec, g, Nat.one_mul]
theorem rd_f124a (hS : rd_S E a1 a2 a3) {s : Nat} (hs : s < 32) (I1 : ∀ j, j < s → j < 8 → a6 j = nI (rd_am E j)) (I2 : a6 s = nI (if s = 0 then 1 else 0))
    (H : ∀ b : Nat → Int32, (∀ j, j < s + 1 → j < 8 → b j = nI (rd_am E j)) → J (nI (s + 1)) a1 a2 a3 a4 a5 b) :
    ∃ n, wX_fill_124 post J (nI s) (nI 7) (nI 3) n 0 a1 a2 a3 a4 a5 a6 := by
  refine ⟨6, rd_f124 (k := 0) hS hs (by omega) I1 (fun _ => I2) (fun b0 I1 I2 => rd_f124 (k := 1) hS hs (by omega) I1 I2 (fun b1 I1 I2 => rd_f124 (k := 2) hS hs (by omega) I1 I2 (fun b2 I1 I2 => rd_f124 (k := 3) hS hs (by omega) I1 I2 (fun b3 I1 I2 => rd_f124 (k := 4) hS hs (by omega) I1 I2 (fun b I1 I2 => ?_)))))⟩
  refine br_t (nI_le (a := 5) (b := 5) (by omega) (by omega)) (nm_r (nI_1 s) (H b (fun j h1 h2 => ?_)))
  by_cases e : j = s
  · subst e
    rw [← rd_am_eq E h2]
    exact I2 h2
  · exact I1 j (by omega) h2
theorem rd_f101 (hS : rd_S E a1 a2 a3) (H : ∀ c : Nat → Int32, (∀ j, j < 8 → c j = nI (rd_am E j)) → post (nI 7, nI 3, a1, a2, a3, a4, a5, c)) :
    ∃ n, wX_fill_101 post (nI 7) (nI 3) n 0 a1 a2 a3 a4 a5 a6 := by
  refine pk_loop (σ := Nat → Int32) (fun n i b => wX_fill_101 post (nI 7) (nI 3) n (nI i) a1 a2 a3 a4 a5 b) (fun i b => ∀ j, j < i → j < 8 → b j = nI (rd_am E j)) 32 0 a6 (by omega) (fun j h => absurd h (by omega)) ?_ ?_
  · intro n b h
    exact br_t (nI_le (a := 32) (b := 32) (by omega) (by omega)) (H b (fun j hj => h j (by omega) hj))
  · intro n i b hi h hw
    refine br_f (nI_ge (b := 32) hi (by omega)) ?_
    rw [pk_cl (x := nI i) i]
    refine pk_eq i 0 (fun z => ⟨pk_in i 32 hi, nm_e (rd_f124a hS hi (fun j h1 h2 => ?_) ?_ hw)⟩) (fun z => ⟨pk_in i 32 hi, nm_e (rd_f124a hS hi (fun j h1 h2 => ?_) ?_ hw)⟩)
    · rw [pk_un (by omega)]
      exact h j h1 h2
    · rw [pk_us, if_pos z]
      rfl
    · rw [pk_un (by omega)]
      exact h j h1 h2
    · rw [pk_us, if_neg z]
      rfl
/-- fill() -/
theorem rd_fill (hS : rd_S E a1 a2 a3) (H : ∀ b c : Nat → Int32, (∀ j, j < 8 → b j = nI (rd_bl E j)) → (∀ j, j < 8 → c j = nI (rd_am E j)) → post (nI 7, nI 3, a1, a2, a3, a4, b, c)) :
    wpX_fill post (nI 7, nI 3, a1, a2, a3, a4, a5, a6) := by
  refine ⟨33, ?_⟩
  have L := pk_loopD (σ := Nat → Int32) (fun n i b => wX_fill_3 post (nI 7) (nI 3) n (nI i + (-1)) a1 a2 a3 a4 b a6) (fun i b => i ≤ 32 ∧ ∀ j, i ≤ j → j < 8 → b j = nI (rd_bl E j)) ?_ ?_ 32 a5 ⟨Nat.le_refl 32, fun j h1 h2 => absurd h1 (by omega)⟩
  · exact L
  · intro n b h
    exact br_t (by decide) (rd_f101 hS (fun c hc => H b c (fun j hj => h.2 j (by omega) hj) hc))
  · intro n i b h hw
    obtain ⟨hi, h⟩ := h
    show wX_fill_3 post (nI 7) (nI 3) (n + 1) (nI (i + 1) + (-1)) a1 a2 a3 a4 b a6
    rw [pk_m1]
    refine br_f (nI_pos (by omega)) ?_
    rw [pk_cl (x := nI i) i]
    refine pk_eq i 7 (fun z => ⟨pk_in i 32 (by omega), nm_e (rd_f28a hS (by omega) (fun j h1 h2 => ?_) ?_ (fun b' hb => hw b' ⟨by omega, hb⟩))⟩) (fun z => ⟨pk_in i 32 (by omega), nm_e (rd_f28a hS (by omega) (fun j h1 h2 => ?_) ?_ (fun b' hb => hw b' ⟨by omega, hb⟩))⟩)
    · rw [pk_un (by omega)]
      exact h j h1 h2
    · rw [pk_us, if_pos z]
      rfl
    · rw [pk_un (by omega)]
      exact h j h1 h2
    · rw [pk_us, if_neg z]
      rfl
end
theorem rd_it_le (E : Nat → Nat) (k m : Nat) : rd_it E k m ≤ 1 := by
  rcases rd_it2 E k m with e | e <;> omega
theorem rd_two {a b c d : Nat} (ha : a ≤ 1) (hb : b ≤ 1) (hc : c ≤ 1) (hd : d ≤ 1) : a * b + c * d ≤ 2 := by
  have h1 := Nat.mul_le_mul ha hb
  have h2 := Nat.mul_le_mul hc hd
  omega
/-- whether task k can be last -/
def rd_la (E : Nat → Nat) (k : Nat) : Nat := if 0 < rd_am E (7 - 2 ^ k) ∧ rd_it E k (7 - 2 ^ k) = 1 then 1 else 0
theorem rd_la_le (E : Nat → Nat) (k : Nat) : rd_la E k ≤ 1 := by
  unfold rd_la
  split <;> omega
theorem rd_am2 (E : Nat → Nat) : ∀ k, k < 3 → rd_am E (7 - 2 ^ k) ≤ 2 := by
  intro k hk
  have c : k = 0 ∨ k = 1 ∨ k = 2 := by omega
  rcases c with rfl | rfl | rfl
  · exact rd_two (rd_it_le E 1 4) (rd_it_le E 2 0) (rd_it_le E 2 2) (rd_it_le E 1 0)
  · exact rd_two (rd_it_le E 0 4) (rd_it_le E 2 0) (rd_it_le E 2 1) (rd_it_le E 0 0)
  · exact rd_two (rd_it_le E 0 2) (rd_it_le E 1 0) (rd_it_le E 1 1) (rd_it_le E 0 0)
theorem rd_pn : ∀ k, k < 3 → nI 7 &&& (((1 : Int32) <<< (nI k &&& 31)) ^^^ (-1)) = nI (7 - 2 ^ k) := by decide +kernel
theorem rd_pn8 : ∀ k, k < 3 → 7 - 2 ^ k < 8 := by decide
theorem rd_h7 : ∀ k, k < 3 → 7 / 2 ^ k % 2 = 1 := by decide
section
variable {E O : Nat → Nat} {a1 a2 a3 a4 a5 a6 : Nat → Int32} {post : Int32 → St2 → Prop}
theorem rd_goodOrders (hS : rd_S E a1 a2 a3) (H : ∀ b c : Nat → Int32, post (nI (rd_b0 E)) (nI 7, nI 3, a1, a2, a3, a4, b, c)) :
    wpX_goodOrders post (nI 7, nI 3, a1, a2, a3, a4, a5, a6) := by
  unfold wpX_goodOrders
  refine rd_fill hS (fun b c hb hc => ?_)
  have h := H b c
  have e : b 0 = nI (rd_b0 E) := hb 0 (by omega)
  rw [← e] at h
  exact h
theorem rd_cl8 (hS : rd_S E a1 a2 a3) (hc : ∀ j, j < 8 → a6 j = nI (rd_am E j)) {n s k : Nat} (hk : k < 3) (hs : s < 2 ^ k)
    (H : wX_canBeLast_8 post (nI 7) (nI 3) a1 a2 a3 a4 a5 a6 n (nI (s + rd_la E k * 2 ^ k)) (nI (k + 1))) :
    wX_canBeLast_8 post (nI 7) (nI 3) a1 a2 a3 a4 a5 a6 (n + 1) (nI s) (nI k) := by
  have p8 := rd_pn8 k hk
  have am := rd_am2 E k hk
  refine br_f (nI_ge (b := 5) (by omega) (by omega)) (nm_r (rd_pn k hk) (rd_has (m := 7) (j := k) (by omega) (by omega) ?_))
  rw [rd_h7 k hk]
  refine br_f (by decide) ⟨pk_in (7 - 2 ^ k) 32 (by omega), ?_⟩
  rw [pk_cl (x := nI (7 - 2 ^ k)) (7 - 2 ^ k), hc _ p8]
  refine pk_le (rd_am E (7 - 2 ^ k)) 0 (fun z => ?_) (fun z => rd_itu hS hk p8 ?_)
  · rw [show rd_la E k = 0 from if_neg (by omega), Nat.zero_mul] at H
    exact nm_r (rd_or0 s) (nm_r (nI_1 k) H)
  · rcases rd_it2 E k (7 - 2 ^ k) with g | g
    · rw [show rd_la E k = 0 from if_neg (by omega), Nat.zero_mul] at H
      rw [g]
      exact br_t rfl (nm_r (rd_or0 s) (nm_r (nI_1 k) H))
    · rw [show rd_la E k = 1 from if_pos ⟨z, g⟩, Nat.one_mul] at H
      rw [g]
      exact br_f (by decide) (nm_r (rd_ora k hk s hs) (nm_r (nI_1 k) H))
theorem rd_canBeLast (hS : rd_S E a1 a2 a3) (H : ∀ b c : Nat → Int32, post (nI (rd_la E 0 + rd_la E 1 * 2 + rd_la E 2 * 4)) (nI 7, nI 3, a1, a2, a3, a4, b, c)) :
    wpX_canBeLast post (nI 7, nI 3, a1, a2, a3, a4, a5, a6) := by
  have i0 := rd_la_le E 0
  have i1 := rd_la_le E 1
  have i2 := rd_la_le E 2
  have b3 : (7 : Nat) / 2 ^ 3 % 2 = 0 := by decide
  have b4 : (7 : Nat) / 2 ^ 4 % 2 = 0 := by decide
  unfold wpX_canBeLast
  refine rd_fill hS (fun b c hb hc => ?_)
  refine ⟨6, rd_cl8 (s := 0) (k := 0) hS hc (by omega) (by omega) (rd_cl8 (k := 1) hS hc (by omega) (by omega) (rd_cl8 (k := 2) hS hc (by omega) (by omega) ?_))⟩
  refine br_f (nI_ge (a := 3) (b := 5) (by omega) (by omega)) (nm_e (rd_has (m := 7) (j := 3) (by omega) (by omega) ?_))
  rw [b3]
  refine br_t rfl (nm_r (rd_or0 _) (nm_r (nI_1 3) ?_))
  refine br_f (nI_ge (a := 4) (b := 5) (by omega) (by omega)) (nm_e (rd_has (m := 7) (j := 4) (by omega) (by omega) ?_))
  rw [b4]
  refine br_t rfl (nm_r (rd_or0 _) (nm_r (nI_1 4) ?_))
  refine br_t (nI_le (a := 5) (b := 5) (by omega) (by omega)) ?_
  rw [show 0 + rd_la E 0 * 2 ^ 0 + rd_la E 1 * 2 ^ 1 + rd_la E 2 * 2 ^ 2 = rd_la E 0 + rd_la E 1 * 2 + rd_la E 2 * 4 by omega]
  exact H b c
end
end
section
/-! three tasks in some order -/
def rd_Ot (x y z : Nat) : Nat → Nat := fun i => if i = 0 then x else if i = 1 then y else z
def rd_Ix (x y : Nat) : Nat → Nat := fun k => if k = x then 0 else if k = y then 1 else 2
def rd_pm (x y z : Nat) : Prop := x < 3 ∧ y < 3 ∧ z < 3 ∧ x ≠ y ∧ y ≠ z ∧ x ≠ z
theorem rd_pmc {x y z : Nat} (h : rd_pm x y z) : (x = 0 ∧ y = 1 ∧ z = 2) ∨ (x = 0 ∧ y = 2 ∧ z = 1) ∨ (x = 1 ∧ y = 0 ∧ z = 2) ∨ (x = 1 ∧ y = 2 ∧ z = 0) ∨ (x = 2 ∧ y = 0 ∧ z = 1) ∨ (x = 2 ∧ y = 1 ∧ z = 0) := by
  unfold rd_pm at h
  omega
def rd_go (E : Nat → Nat) (x y z : Nat) : Nat := rd_it E x 0 * rd_it E y (2 ^ x) * rd_it E z (2 ^ x ||| 2 ^ y)
theorem rd_go_le (E : Nat → Nat) (x y z : Nat) : rd_go E x y z ≤ 1 := by
  have a := Nat.mul_le_mul (rd_it_le E x 0) (rd_it_le E y (2 ^ x))
  exact Nat.mul_le_mul a (rd_it_le E z (2 ^ x ||| 2 ^ y))
def rd_ps (a b : Nat) : Nat := if 0 < a then b else 0
theorem rd_F0 (E : Nat → Nat) (t : Nat) : rd_WS E 0 t = 0 := by
  simp [rd_WS, rd_ct]
theorem rd_F1 (E : Nat → Nat) {x : Nat} (hx : x < 3) (t : Nat) : rd_WS E (2 ^ x) t = rd_W (E x) t := by
  have c : x = 0 ∨ x = 1 ∨ x = 2 := by omega
  rcases c with rfl | rfl | rfl <;> simp [rd_WS, rd_ct]
theorem rd_F2 (E : Nat → Nat) {x y z : Nat} (h : rd_pm x y z) (t : Nat) : rd_WS E (2 ^ x ||| 2 ^ y) t = rd_W (E x) t + rd_W (E y) t := by
  rcases rd_pmc h with ⟨rfl, rfl, rfl⟩ | ⟨rfl, rfl, rfl⟩ | ⟨rfl, rfl, rfl⟩ | ⟨rfl, rfl, rfl⟩ | ⟨rfl, rfl, rfl⟩ | ⟨rfl, rfl, rfl⟩ <;> simp [rd_WS, rd_ct] <;> omega
theorem rd_F3 (E : Nat → Nat) {x y z : Nat} (h : rd_pm x y z) (t : Nat) : rd_WS E 7 t = rd_T (E x) (E y) (E z) t := by
  rcases rd_pmc h with ⟨rfl, rfl, rfl⟩ | ⟨rfl, rfl, rfl⟩ | ⟨rfl, rfl, rfl⟩ | ⟨rfl, rfl, rfl⟩ | ⟨rfl, rfl, rfl⟩ | ⟨rfl, rfl, rfl⟩ <;> simp [rd_WS, rd_ct, rd_T] <;> omega
theorem rd_G1 (E : Nat → Nat) {x y z : Nat} (h : rd_pm x y z) :
    rd_it E x 0 * 2 ^ x + rd_it E y (2 ^ x) * 2 ^ y + rd_it E z (2 ^ x ||| 2 ^ y) * 2 ^ z =
    rd_it E 0 (rd_mk (rd_Ot x y z) (rd_Ix x y 0)) + rd_it E 1 (rd_mk (rd_Ot x y z) (rd_Ix x y 1)) * 2 + rd_it E 2 (rd_mk (rd_Ot x y z) (rd_Ix x y 2)) * 4 := by
  rcases rd_pmc h with ⟨rfl, rfl, rfl⟩ | ⟨rfl, rfl, rfl⟩ | ⟨rfl, rfl, rfl⟩ | ⟨rfl, rfl, rfl⟩ | ⟨rfl, rfl, rfl⟩ | ⟨rfl, rfl, rfl⟩ <;> simp [rd_mk, rd_Ot, rd_Ix] <;> omega
theorem rd_G2a (E : Nat → Nat) : rd_b0 E = rd_go E 0 1 2 + rd_go E 0 2 1 + rd_go E 1 0 2 + rd_go E 1 2 0 + rd_go E 2 0 1 + rd_go E 2 1 0 := by
  show rd_it E 0 0 * (rd_it E 1 1 * rd_it E 2 3 + rd_it E 2 1 * rd_it E 1 5) + rd_it E 1 0 * (rd_it E 0 2 * rd_it E 2 3 + rd_it E 2 2 * rd_it E 0 6) + rd_it E 2 0 * (rd_it E 0 4 * rd_it E 1 5 + rd_it E 1 4 * rd_it E 0 6) =
    rd_it E 0 0 * rd_it E 1 1 * rd_it E 2 3 + rd_it E 0 0 * rd_it E 2 1 * rd_it E 1 5 + rd_it E 1 0 * rd_it E 0 2 * rd_it E 2 3 + rd_it E 1 0 * rd_it E 2 2 * rd_it E 0 6 + rd_it E 2 0 * rd_it E 0 4 * rd_it E 1 5 + rd_it E 2 0 * rd_it E 1 4 * rd_it E 0 6
  simp only [Nat.mul_add, Nat.mul_assoc]
  omega
theorem rd_G2 (E : Nat → Nat) {x y z : Nat} (h : rd_pm x y z) : rd_b0 E = rd_go E x y z + rd_go E x z y + rd_go E y x z + rd_go E y z x + rd_go E z x y + rd_go E z y x := by
  have g := rd_G2a E
  rcases rd_pmc h with ⟨rfl, rfl, rfl⟩ | ⟨rfl, rfl, rfl⟩ | ⟨rfl, rfl, rfl⟩ | ⟨rfl, rfl, rfl⟩ | ⟨rfl, rfl, rfl⟩ | ⟨rfl, rfl, rfl⟩ <;> omega
theorem rd_lax {a b c d k : Nat} (ha : a = 0 ∨ a = 1) (hb : b = 0 ∨ b = 1) (hc : c = 0 ∨ c = 1) (hd : d = 0 ∨ d = 1) (hk : k = 0 ∨ k = 1) :
    (if 0 < a * b + c * d ∧ k = 1 then 1 else 0) = (if 0 < b * a * k + d * c * k then 1 else 0) := by
  rcases ha with rfl | rfl <;> rcases hb with rfl | rfl <;> rcases hc with rfl | rfl <;> rcases hd with rfl | rfl <;> rcases hk with rfl | rfl <;> rfl
theorem rd_la0 (E : Nat → Nat) : rd_la E 0 = rd_ps (rd_go E 2 1 0 + rd_go E 1 2 0) 1 :=
  rd_lax (rd_it2 E 1 4) (rd_it2 E 2 0) (rd_it2 E 2 2) (rd_it2 E 1 0) (rd_it2 E 0 6)
theorem rd_la1 (E : Nat → Nat) : rd_la E 1 = rd_ps (rd_go E 2 0 1 + rd_go E 0 2 1) 1 :=
  rd_lax (rd_it2 E 0 4) (rd_it2 E 2 0) (rd_it2 E 2 1) (rd_it2 E 0 0) (rd_it2 E 1 5)
theorem rd_la2 (E : Nat → Nat) : rd_la E 2 = rd_ps (rd_go E 1 0 2 + rd_go E 0 1 2) 1 :=
  rd_lax (rd_it2 E 0 2) (rd_it2 E 1 0) (rd_it2 E 1 1) (rd_it2 E 0 0) (rd_it2 E 2 3)
theorem rd_ps1 (a b n : Nat) : rd_ps (a + b) n = rd_ps (b + a) 1 * n := by
  unfold rd_ps
  by_cases h : 0 < a + b
  · rw [if_pos h, if_pos (by omega), Nat.one_mul]
  · rw [if_neg h, if_neg (by omega), Nat.zero_mul]
theorem rd_ps2 (a b n : Nat) : rd_ps (a + b) n = rd_ps (a + b) 1 * n := by
  unfold rd_ps
  split
  · rw [Nat.one_mul]
  · rw [Nat.zero_mul]
theorem rd_psc (a b n : Nat) : rd_ps (a + b) n = rd_ps (b + a) n := by
  rw [Nat.add_comm]
theorem rd_G3 (E : Nat → Nat) {x y z : Nat} (h : rd_pm x y z) :
    rd_ps (rd_go E x y z + rd_go E y x z) (2 ^ z) + rd_ps (rd_go E x z y + rd_go E z x y) (2 ^ y) + rd_ps (rd_go E y z x + rd_go E z y x) (2 ^ x) = rd_la E 0 + rd_la E 1 * 2 + rd_la E 2 * 4 := by
  rw [rd_la0, rd_la1, rd_la2]
  have c0 := rd_psc (rd_go E 2 1 0) (rd_go E 1 2 0) 1
  have c1 := rd_psc (rd_go E 2 0 1) (rd_go E 0 2 1) 1
  have c2 := rd_psc (rd_go E 1 0 2) (rd_go E 0 1 2) 1
  rw [rd_ps2 _ _ (2 ^ z), rd_ps2 _ _ (2 ^ y), rd_ps2 _ _ (2 ^ x)]
  rcases rd_pmc h with ⟨rfl, rfl, rfl⟩ | ⟨rfl, rfl, rfl⟩ | ⟨rfl, rfl, rfl⟩ | ⟨rfl, rfl, rfl⟩ | ⟨rfl, rfl, rfl⟩ | ⟨rfl, rfl, rfl⟩ <;> omega
theorem rd_Oof {x y z : Nat} (h : rd_pm x y z) {b : Nat → Int32} (h0 : b 0 = nI x) (h1 : b 1 = nI y) (h2 : b 2 = nI z) : rd_O (rd_Ot x y z) b := by
  obtain ⟨p1, p2, p3, p4, p5, p6⟩ := h
  refine ⟨fun j hj => co_3 (P := fun j => b j = nI (rd_Ot x y z j) ∧ rd_Ot x y z j < 3) ⟨h0, p1⟩ ⟨h1, p2⟩ ⟨h2, p3⟩ hj, fun i j hi hj e => ?_⟩
  have ci : i = 0 ∨ i = 1 ∨ i = 2 := by omega
  have cj : j = 0 ∨ j = 1 ∨ j = 2 := by omega
  rcases ci with rfl | rfl | rfl <;> rcases cj with rfl | rfl | rfl <;> simp [rd_Ot] at e <;> first | rfl | (exfalso; omega)
theorem rd_Ixo {x y z : Nat} (h : rd_pm x y z) : ∀ k, k < 3 → rd_Ix x y k < 3 ∧ rd_Ot x y z (rd_Ix x y k) = k := by
  intro k hk
  have ck : k = 0 ∨ k = 1 ∨ k = 2 := by omega
  rcases rd_pmc h with ⟨rfl, rfl, rfl⟩ | ⟨rfl, rfl, rfl⟩ | ⟨rfl, rfl, rfl⟩ | ⟨rfl, rfl, rfl⟩ | ⟨rfl, rfl, rfl⟩ | ⟨rfl, rfl, rfl⟩ <;> rcases ck with rfl | rfl | rfl <;> decide
/-! the law's own static methods over the class's numbers -/
theorem rd_R63 (E : Nat → Nat) (k m : Nat) : rd_R E k m ≤ 63 := rd_rs_le _ _ (by omega)
section
variable {E : Nat → Nat} {post : Int32 → Prop}
theorem rd_r1 (hE : ∀ k, k < 3 → rd_ok (E k)) {x u : Nat} (hx : x < 3) (hu : u ≤ 31) (H : ∀ i, i ≤ 31 → post (nI (i * 64 + rd_R E x 0))) :
    wpL_response post () (nI (E x)) 0 0 (nI (E x)) (nI u) := by
  refine rd_resp (P := E x) (Q := 0) (R := 0) ⟨hE x hx, Or.inl rfl, Or.inl rfl, fun h => h⟩ hu ?_
  have il := rd_Im_le (rd_T (E x) 0 0) u
  have h := H _ (show rd_Im (rd_T (E x) 0 0) u ≤ 31 by omega)
  rw [show rd_rs (rd_H (E x) 0 0) (rd_me (E x) 0 0 % 16) 32 = rd_R E x 0 from rd_rs_congr (fun t => (rd_F0 E t).symm) _ _]
  exact h
theorem rd_r2 (hE : ∀ k, k < 3 → rd_ok (E k)) {x y u : Nat} (hx : x < 3) (hy : y < 3) (hu : u ≤ 31) (H : ∀ i, i ≤ 31 → post (nI (i * 64 + rd_R E y (2 ^ x)))) :
    wpL_response post () (nI (E x)) (nI (E y)) 0 (nI (E y)) (nI u) := by
  have y0 := (rd_okp (hE y hy)).2.2.1
  have em : rd_me (E x) (E y) 0 = E y := (if_neg (by omega)).trans (if_pos y0)
  have R := rd_resp (post := post) (P := E x) (Q := E y) (R := 0) (u := u) ⟨hE x hx, Or.inr (hE y hy), Or.inl rfl, fun h => absurd h (by omega)⟩ hu
  rw [em] at R
  refine R ?_
  have il := rd_Im_le (rd_T (E x) (E y) 0) u
  have h := H _ (show rd_Im (rd_T (E x) (E y) 0) u ≤ 31 by omega)
  rw [show rd_rs (rd_H (E x) (E y) 0) (E y % 16) 32 = rd_R E y (2 ^ x) from rd_rs_congr (fun t => ((if_neg (by omega)).trans (if_pos y0)).trans (rd_F1 E hx t).symm) _ _]
  exact h
theorem rd_r3 (hE : ∀ k, k < 3 → rd_ok (E k)) {x y z u : Nat} (h : rd_pm x y z) (hu : u ≤ 31) (H : post (nI (rd_Im (rd_WS E 7) u * 64 + rd_R E z (2 ^ x ||| 2 ^ y)))) :
    wpL_response post () (nI (E x)) (nI (E y)) (nI (E z)) (nI (E z)) (nI u) := by
  have ox := hE x h.1
  have oy := hE y h.2.1
  have oz := hE z h.2.2.1
  have z0 := (rd_okp oz).2.2.1
  have em : rd_me (E x) (E y) (E z) = E z := if_pos z0
  have R := rd_resp (post := post) (P := E x) (Q := E y) (R := E z) (u := u) ⟨ox, Or.inr oy, Or.inr oz, fun _ => (rd_okp oy).2.2.1⟩ hu
  rw [em] at R
  refine R ?_
  rw [show rd_rs (rd_H (E x) (E y) (E z)) (E z % 16) 32 = rd_R E z (2 ^ x ||| 2 ^ y) from rd_rs_congr (fun t => (if_pos z0).trans (rd_F2 E h t).symm) _ _,
    show rd_T (E x) (E y) (E z) = rd_WS E 7 from funext (fun t => (rd_F3 E h t).symm)]
  exact H
theorem rd_lo {i r : Nat} (hi : i ≤ 31) (hr : r ≤ 63) : nI (i * 64 + r) &&& 63 = nI r := by
  by_cases h : r ≤ 63
  · rw [rd_and63 (by omega), show (i * 64 + r) % 64 = r by omega]
  · omega
theorem rd_hi {i r : Nat} (hi : i ≤ 31) (hr : r ≤ 63) : nI (i * 64 + r) >>> ((6 : Int32) &&& 31) = nI i := by
  rw [rd_shr6 (by omega), show (i * 64 + r) / 64 = i by omega]
theorem rd_lim {e : Nat} (h : rd_ok e) : (nI e >>> ((4 : Int32) &&& 31)) &&& 15 = nI (e / 16 % 16) := by
  have := rd_okp h
  rw [rd_shr4 (by omega), rd_and15 (by omega)]
theorem rd_goodOrder (hE : ∀ k, k < 3 → rd_ok (E k)) {x y z : Nat} (h : rd_pm x y z) (H : post (nI (rd_go E x y z))) :
    wpL_goodOrder post () (nI (E x)) (nI (E y)) (nI (E z)) := by
  have rx := rd_R63 E x 0
  have ry := rd_R63 E y (2 ^ x)
  have rz := rd_R63 E z (2 ^ x ||| 2 ^ y)
  have ox := hE x h.1
  have oy := hE y h.2.1
  have oz := hE z h.2.2.1
  unfold wpL_goodOrder
  rw [rd_lim ox, rd_lim oy, rd_lim oz]
  refine rd_r1 hE h.1 (u := 0) (by omega) (fun i hi => nm_r (rd_lo hi rx) ?_)
  refine rd_r2 hE h.1 h.2.1 (u := 0) (by omega) (fun i hi => nm_r (rd_lo hi ry) ?_)
  refine rd_r3 hE h (u := 0) (by omega) (nm_r (rd_lo (Nat.le_trans (rd_Im_le _ 0) (by omega)) rz) ?_)
  unfold rd_go at H
  refine pk_lt (E x / 16 % 16) (rd_R E x 0) (fun g => ?_) (fun g => pk_lt (E y / 16 % 16) (rd_R E y (2 ^ x)) (fun g2 => ?_) (fun g2 => pk_lt (E z / 16 % 16) (rd_R E z (2 ^ x ||| 2 ^ y)) (fun g3 => ?_) (fun g3 => ?_)))
  · rw [show rd_it E x 0 = 0 from if_neg (by omega), Nat.zero_mul, Nat.zero_mul] at H
    exact H
  · rw [show rd_it E y (2 ^ x) = 0 from if_neg (by omega), Nat.mul_zero, Nat.zero_mul] at H
    exact H
  · rw [show rd_it E z (2 ^ x ||| 2 ^ y) = 0 from if_neg (by omega), Nat.mul_zero] at H
    exact H
  · rw [show rd_it E x 0 = 1 from if_pos g, show rd_it E y (2 ^ x) = 1 from if_pos g2, show rd_it E z (2 ^ x ||| 2 ^ y) = 1 from if_pos g3] at H
    exact H
end
end
section
theorem rd_sh : ∀ x, x < 3 → (1 : Int32) <<< (nI x &&& 31) = nI (2 ^ x) := by decide +kernel
section
variable {E : Nat → Nat} {post : Int32 → St0 → Prop} {mc ms kc ks : Nat} {a1 a2 a3 a4 a5 a6 : Nat → Int32}
theorem rd_697 (hS : rd_S E a1 a2 a3) {g1 g2 g3 g4 g5 g6 l0 l1 : Nat} (e1 : rd_b0 E = g1 + g2 + g3 + g4 + g5 + g6) (e2 : l1 + l0 = rd_la E 0 + rd_la E 1 * 2 + rd_la E 2 * 4) (hp : post 1 ()) :
    wL_lawOf_697 post mc ms (nI g1) (nI g2) (nI g3) (nI g4) (nI g5) (nI g6) (nI l0) (nI l1) kc ks (nI 7) (nI 3) a1 a2 a3 a4 a5 a6 := by
  unfold wL_lawOf_697
  refine nm_r (nI_add l1 l0) (rd_goodOrders hS (fun b c => br_t ?_ (rd_canBeLast hS (fun b' c' => br_t ?_ hp))))
  · rw [nI_add, nI_add, nI_add, nI_add, nI_add, e1]
  · rw [e2]
theorem rd_680 (hS : rd_S E a1 a2 a3) {x g1 g2 g3 g4 g5 g6 l0 l1 : Nat} (hx : x < 3) (h4 : g4 ≤ 1) (h6 : g6 ≤ 1) (e1 : rd_b0 E = g1 + g2 + g3 + g4 + g5 + g6) (e2 : l1 + l0 + rd_ps (g4 + g6) (2 ^ x) = rd_la E 0 + rd_la E 1 * 2 + rd_la E 2 * 4) (hp : post 1 ()) :
    wL_lawOf_680 post mc ms (nI x) (nI g1) (nI g2) (nI g3) (nI g4) (nI g5) (nI g6) (nI l0) (nI l1) kc ks (nI 7) (nI 3) a1 a2 a3 a4 a5 a6 := by
  unfold wL_lawOf_680
  rw [rd_sh x hx, nI_add l1 l0]
  refine pk_le (g4 + g6) 0 (fun z => ?_) (fun z => ?_) (hx := nI_add g4 g6)
  · rw [show rd_ps (g4 + g6) (2 ^ x) = 0 from if_neg (by omega)] at e2
    exact rd_697 hS (l0 := 0) e1 e2 hp
  · rw [show rd_ps (g4 + g6) (2 ^ x) = 2 ^ x from if_pos z] at e2
    exact rd_697 hS e1 e2 hp
theorem rd_664 (hS : rd_S E a1 a2 a3) {x y g1 g2 g3 g4 g5 g6 l1 : Nat} (hx : x < 3) (hy : y < 3) (h4 : g4 ≤ 1) (h6 : g6 ≤ 1) (h2 : g2 ≤ 1) (h5 : g5 ≤ 1) (e1 : rd_b0 E = g1 + g2 + g3 + g4 + g5 + g6) (e2 : l1 + rd_ps (g2 + g5) (2 ^ y) + rd_ps (g4 + g6) (2 ^ x) = rd_la E 0 + rd_la E 1 * 2 + rd_la E 2 * 4) (hp : post 1 ()) :
    wL_lawOf_664 post mc ms (nI x) (nI y) (nI g1) (nI g2) (nI g3) (nI g4) (nI g5) (nI g6) (nI l1) kc ks (nI 7) (nI 3) a1 a2 a3 a4 a5 a6 := by
  unfold wL_lawOf_664
  rw [rd_sh y hy]
  refine pk_le (g2 + g5) 0 (fun z => ?_) (fun z => ?_) (hx := nI_add g2 g5)
  · rw [show rd_ps (g2 + g5) (2 ^ y) = 0 from if_neg (by omega)] at e2
    exact rd_680 hS (l0 := 0) hx h4 h6 e1 e2 hp
  · rw [show rd_ps (g2 + g5) (2 ^ y) = 2 ^ y from if_pos z] at e2
    exact rd_680 hS hx h4 h6 e1 e2 hp
theorem rd_577 (hS : rd_S E a1 a2 a3) {x y z : Nat} (h : rd_pm x y z) {z0 z1 : Int32} (ez : z1 = z0) (hp : post 1 ()) :
    wL_lawOf_577 post mc ms (nI x) (nI y) (nI z) (nI (E x)) (nI (E y)) (nI (E z)) z0 z1 kc ks (nI 7) (nI 3) a1 a2 a3 a4 a5 a6 := by
  have hE : ∀ k, k < 3 → rd_ok (E k) := fun k hk => (hS k hk).1
  obtain ⟨p1, p2, p3, p4, p5, p6⟩ := id h
  have b1 := rd_go_le E x y z
  have b2 := rd_go_le E x z y
  have b3 := rd_go_le E y x z
  have b4 := rd_go_le E y z x
  have b5 := rd_go_le E z x y
  have b6 := rd_go_le E z y x
  have e1 := rd_G2 E h
  have e2 := rd_G3 E h
  unfold wL_lawOf_577
  rw [rd_sh z p3]
  refine br_t ez (rd_goodOrder hE h (rd_goodOrder hE ⟨p1, p3, p2, p6, p5.symm, p4⟩ (rd_goodOrder hE ⟨p2, p1, p3, p4.symm, p6, p5⟩ (rd_goodOrder hE ⟨p2, p3, p1, p5, p6.symm, p4.symm⟩ (rd_goodOrder hE ⟨p3, p1, p2, p6.symm, p4, p5.symm⟩ (rd_goodOrder hE ⟨p3, p2, p1, p5.symm, p4.symm, p6.symm⟩ ?_))))))
  refine pk_le (rd_go E x y z + rd_go E y x z) 0 (fun g => ?_) (fun g => ?_) (hx := nI_add _ _)
  · rw [show rd_ps (rd_go E x y z + rd_go E y x z) (2 ^ z) = 0 from if_neg (by omega)] at e2
    exact rd_664 hS (l1 := 0) p1 p2 b4 b6 b2 b5 e1 e2 hp
  · rw [show rd_ps (rd_go E x y z + rd_go E y x z) (2 ^ z) = 2 ^ z from if_pos g] at e2
    exact rd_664 hS p1 p2 b4 b6 b2 b5 e1 e2 hp
/-- what response answers -/
def rd_du (E : Nat → Nat) (k m : Nat) : Int32 := if rd_R E k m ≤ E k / 256 then nI (rd_R E k m) else -3
theorem rd_511 (hS : rd_S E a1 a2 a3) {x y z : Nat} (h : rd_pm x y z) (hO : rd_O (rd_Ot x y z) a4) {l0 l1 : Nat}
    (el : l1 + l0 = rd_it E x 0 * 2 ^ x + rd_it E y (2 ^ x) * 2 ^ y + rd_it E z (2 ^ x ||| 2 ^ y) * 2 ^ z) (hp : post 1 ()) :
    wL_lawOf_511 post mc ms (nI x) (nI y) (nI z) (nI (E x)) (nI (E y)) (nI (E z)) (rd_du E x 0) (rd_du E y (2 ^ x)) (rd_du E z (2 ^ x ||| 2 ^ y)) (nI l0) (nI l1) kc ks (nI 7) (nI 3) a1 a2 a3 a4 a5 a6 := by
  rw [rd_G1 E h] at el
  have i0 := rd_it_le E 0 (rd_mk (rd_Ot x y z) (rd_Ix x y 0))
  have i1 := rd_it_le E 1 (rd_mk (rd_Ot x y z) (rd_Ix x y 1))
  have i2 := rd_it_le E 2 (rd_mk (rd_Ot x y z) (rd_Ix x y 2))
  have m1 : rd_mk (rd_Ot x y z) 1 = 2 ^ x := Nat.zero_or _
  have m2 : rd_mk (rd_Ot x y z) 2 = 2 ^ x ||| 2 ^ y := congrArg (fun w => w ||| 2 ^ y) m1
  have r0 := @rd_response E (rd_Ot x y z) a1 a2 a3 a4 a5 a6
  unfold wL_lawOf_511
  refine nm_r (nI_add l1 l0) ?_
  refine rd_response hS hO (i := 0) (by omega) (br_t rfl ?_)
  refine rd_response hS hO (i := 1) (by omega) (br_t ?_ ?_)
  · rw [m1]
    rfl
  refine rd_response hS hO (i := 2) (by omega) (br_t ?_ ?_)
  · rw [m2]
    rfl
  refine rd_inTime hS hO (rd_Ixo h) (br_t (by rw [el]) ?_)
  refine rd_good hS hO (rd_Ixo h) ?_
  rw [← el]
  refine pk_eq (l1 + l0) 7 (fun e => ?_) (fun e => ?_)
  · rw [if_pos e]
    exact rd_577 hS h rfl hp
  · rw [if_neg e]
    exact rd_577 hS h rfl hp
theorem rd_490 (hS : rd_S E a1 a2 a3) {x y z : Nat} (h : rd_pm x y z) (hO : rd_O (rd_Ot x y z) a4) {l0 l1 : Nat}
    (el : l1 + l0 = rd_it E x 0 * 2 ^ x + rd_it E y (2 ^ x) * 2 ^ y) (hp : post 1 ()) :
    wL_lawOf_490 post mc ms (nI x) (nI y) (nI z) (nI (E x)) (nI (E y)) (nI (E z)) (nI (rd_R E z (2 ^ x ||| 2 ^ y))) (rd_du E x 0) (rd_du E y (2 ^ x)) (rd_du E z (2 ^ x ||| 2 ^ y)) (nI l0) (nI l1) kc ks (nI 7) (nI 3) a1 a2 a3 a4 a5 a6 := by
  have rz := rd_R63 E z (2 ^ x ||| 2 ^ y)
  unfold wL_lawOf_490
  rw [rd_lim (hS z h.2.2.1).1, rd_sh z h.2.2.1, nI_add l1 l0]
  refine pk_lt (E z / 16 % 16) (rd_R E z (2 ^ x ||| 2 ^ y)) (fun g => ?_) (fun g => ?_)
  · exact rd_511 hS h hO (l0 := 0) (by rw [show rd_it E z (2 ^ x ||| 2 ^ y) = 0 from if_neg (by omega), el, Nat.zero_mul]) hp
  · exact rd_511 hS h hO (by rw [show rd_it E z (2 ^ x ||| 2 ^ y) = 1 from if_pos g, el, Nat.one_mul]) hp
theorem rd_470 (hS : rd_S E a1 a2 a3) {x y z : Nat} (h : rd_pm x y z) (hO : rd_O (rd_Ot x y z) a4) {l1 : Nat}
    (el : l1 = rd_it E x 0 * 2 ^ x) (hp : post 1 ()) :
    wL_lawOf_470 post mc ms (nI x) (nI y) (nI z) (nI (E x)) (nI (E y)) (nI (E z)) (nI (rd_R E y (2 ^ x))) (nI (rd_R E z (2 ^ x ||| 2 ^ y))) (rd_du E x 0) (rd_du E y (2 ^ x)) (rd_du E z (2 ^ x ||| 2 ^ y)) (nI l1) kc ks (nI 7) (nI 3) a1 a2 a3 a4 a5 a6 := by
  have ry := rd_R63 E y (2 ^ x)
  unfold wL_lawOf_470
  rw [rd_lim (hS y h.2.1).1, rd_sh y h.2.1]
  refine pk_lt (E y / 16 % 16) (rd_R E y (2 ^ x)) (fun g => ?_) (fun g => ?_)
  · exact rd_490 hS h hO (l0 := 0) (by rw [show rd_it E y (2 ^ x) = 0 from if_neg (by omega), el, Nat.zero_mul]) hp
  · exact rd_490 hS h hO (by rw [show rd_it E y (2 ^ x) = 1 from if_pos g, el, Nat.one_mul]) hp
theorem rd_448 (hS : rd_S E a1 a2 a3) {x y z : Nat} (h : rd_pm x y z) (hO : rd_O (rd_Ot x y z) a4) (hp : post 1 ()) :
    wL_lawOf_448 post mc ms (nI x) (nI y) (nI z) (nI (E x)) (nI (E y)) (nI (E z)) (nI (rd_R E x 0)) (nI (rd_R E y (2 ^ x))) (nI (rd_R E z (2 ^ x ||| 2 ^ y))) (rd_du E x 0) (rd_du E y (2 ^ x)) (rd_du E z (2 ^ x ||| 2 ^ y)) kc ks (nI 7) (nI 3) a1 a2 a3 a4 a5 a6 := by
  have rx := rd_R63 E x 0
  unfold wL_lawOf_448
  rw [rd_lim (hS x h.1).1, rd_sh x h.1]
  refine pk_lt (E x / 16 % 16) (rd_R E x 0) (fun g => ?_) (fun g => ?_)
  · exact rd_470 hS h hO (l1 := 0) (by rw [show rd_it E x 0 = 0 from if_neg (by omega), Nat.zero_mul]) hp
  · exact rd_470 hS h hO (by rw [show rd_it E x 0 = 1 from if_pos g, Nat.one_mul]) hp
theorem rd_429 (hS : rd_S E a1 a2 a3) {x y z : Nat} (h : rd_pm x y z) (hO : rd_O (rd_Ot x y z) a4) (hp : post 1 ()) :
    wL_lawOf_429 post mc ms (nI x) (nI y) (nI z) (nI (E x)) (nI (E y)) (nI (E z)) (nI (rd_R E x 0)) (nI (rd_R E y (2 ^ x))) (nI (rd_R E z (2 ^ x ||| 2 ^ y))) (rd_du E x 0) (rd_du E y (2 ^ x)) kc ks (nI 7) (nI 3) a1 a2 a3 a4 a5 a6 := by
  have rz := rd_R63 E z (2 ^ x ||| 2 ^ y)
  have pp := rd_okp (hS z h.2.2.1).1
  have H := rd_448 (mc := mc) (ms := ms) (kc := kc) (ks := ks) (a5 := a5) (a6 := a6) hS h hO hp
  unfold wL_lawOf_429
  rw [rd_shr8 (show E z < 2 ^ 31 by omega)]
  refine pk_le (rd_R E z (2 ^ x ||| 2 ^ y)) (E z / 256) (fun g => ?_) (fun g => ?_)
  · rw [show rd_du E z (2 ^ x ||| 2 ^ y) = nI (rd_R E z (2 ^ x ||| 2 ^ y)) from if_pos g] at H
    exact H
  · rw [show rd_du E z (2 ^ x ||| 2 ^ y) = -3 from if_neg (by omega)] at H
    exact H
theorem rd_410 (hS : rd_S E a1 a2 a3) {x y z : Nat} (h : rd_pm x y z) (hO : rd_O (rd_Ot x y z) a4) (hp : post 1 ()) :
    wL_lawOf_410 post mc ms (nI x) (nI y) (nI z) (nI (E x)) (nI (E y)) (nI (E z)) (nI (rd_R E x 0)) (nI (rd_R E y (2 ^ x))) (nI (rd_R E z (2 ^ x ||| 2 ^ y))) (rd_du E x 0) kc ks (nI 7) (nI 3) a1 a2 a3 a4 a5 a6 := by
  have ry := rd_R63 E y (2 ^ x)
  have pp := rd_okp (hS y h.2.1).1
  have H := rd_429 (mc := mc) (ms := ms) (kc := kc) (ks := ks) (a5 := a5) (a6 := a6) hS h hO hp
  unfold wL_lawOf_410
  rw [rd_shr8 (show E y < 2 ^ 31 by omega)]
  refine pk_le (rd_R E y (2 ^ x)) (E y / 256) (fun g => ?_) (fun g => ?_)
  · rw [show rd_du E y (2 ^ x) = nI (rd_R E y (2 ^ x)) from if_pos g] at H
    exact H
  · rw [show rd_du E y (2 ^ x) = -3 from if_neg (by omega)] at H
    exact H
theorem rd_279 (hS : rd_S E a1 a2 a3) {x y z : Nat} (h : rd_pm x y z) (hO : rd_O (rd_Ot x y z) a4) {x5 : Int32} (hp : post 1 ()) :
    wL_lawOf_279 post mc ms x5 (nI x) (nI y) (nI z) (nI (E x)) (nI (E y)) (nI (E z)) kc ks (nI 7) (nI 3) a1 a2 a3 a4 a5 a6 := by
  have hE : ∀ k, k < 3 → rd_ok (E k) := fun k hk => (hS k hk).1
  have rx := rd_R63 E x 0
  have ry := rd_R63 E y (2 ^ x)
  have rz := rd_R63 E z (2 ^ x ||| 2 ^ y)
  have pp := rd_okp (hS x h.1).1
  obtain ⟨u, hu, eu⟩ := rd_and31 x5
  have il := rd_Im_le (rd_WS E 7) u
  have H := rd_410 (mc := mc) (ms := ms) (kc := kc) (ks := ks) (a5 := a5) (a6 := a6) hS h hO hp
  unfold wL_lawOf_279
  refine nm_r eu ?_
  refine rd_r1 hE h.1 (by omega) (fun i hi => nm_r (rd_lo hi rx) ?_)
  refine rd_r2 hE h.1 h.2.1 (by omega) (fun i hi => nm_r (rd_lo hi ry) ?_)
  refine rd_r3 hE h (by omega) (nm_r (rd_lo (by omega) rz) ?_)
  refine rd_at hO (i := 0) (by omega) (br_t rfl ?_)
  refine rd_at hO (i := 1) (by omega) (br_t rfl ?_)
  refine rd_at hO (i := 2) (by omega) (br_t rfl ?_)
  refine rd_idle hS (by omega) (br_t (rd_hi (by omega) rz).symm ?_)
  rw [rd_shr8 (show E x < 2 ^ 31 by omega)]
  refine pk_le (rd_R E x 0) (E x / 256) (fun g => ?_) (fun g => ?_)
  · rw [show rd_du E x 0 = nI (rd_R E x 0) from if_pos g] at H
    exact H
  · rw [show rd_du E x 0 = -3 from if_neg (by omega)] at H
    exact H
theorem rd_254 {x5 x14 x15 x17 z0 : Int32} {z : Nat} (hz : z < 3) (H : wL_lawOf_279 post mc ms x5 x14 x15 (nI z) x17 z0 (nI (E z)) kc ks (nI 7) (nI 3) a1 a2 a3 a4 a5 a6) :
    wL_lawOf_254 post mc ms x5 (nI (E 0)) (nI (E 1)) (nI (E 2)) x14 x15 (nI z) x17 z0 kc ks (nI 7) (nI 3) a1 a2 a3 a4 a5 a6 := by
  unfold wL_lawOf_254
  refine pk_eq z 0 (fun e => ?_) (fun e => pk_eq z 1 (fun e' => ?_) (fun e' => ?_))
  · subst e
    exact H
  · subst e'
    exact H
  · have e2 : z = 2 := by omega
    subst e2
    exact H
theorem rd_229 {x5 x14 x16 z0 : Int32} {y : Nat} (hy : y < 3) (H : wL_lawOf_254 post mc ms x5 (nI (E 0)) (nI (E 1)) (nI (E 2)) x14 (nI y) x16 z0 (nI (E y)) kc ks (nI 7) (nI 3) a1 a2 a3 a4 a5 a6) :
    wL_lawOf_229 post mc ms x5 (nI (E 0)) (nI (E 1)) (nI (E 2)) x14 (nI y) x16 z0 kc ks (nI 7) (nI 3) a1 a2 a3 a4 a5 a6 := by
  unfold wL_lawOf_229
  refine pk_eq y 0 (fun e => ?_) (fun e => pk_eq y 1 (fun e' => ?_) (fun e' => ?_))
  · subst e
    exact H
  · subst e'
    exact H
  · have e2 : y = 2 := by omega
    subst e2
    exact H
theorem rd_3s {a b : Nat} (h : a + b ≤ 3) : (3 : Int32) - nI a - nI b = nI (3 - a - b) := by
  have e : (3 : Int32) - nI a = nI (3 - a) := pk_sub (a := 3) (by omega)
  rw [e, pk_sub (by omega)]
theorem rd_195 (hS : rd_S E a1 a2 a3) {x y z : Nat} (h : rd_pm x y z) (hz : z = 3 - x - y) (hO : rd_O (rd_Ot x y z) a4) {x5 : Int32} (hp : post 1 ()) :
    wL_lawOf_195 post mc ms x5 (nI (E 0)) (nI (E 1)) (nI (E 2)) (nI x) (nI y) kc ks (nI 7) (nI 3) a1 a2 a3 a4 a5 a6 := by
  have h' := h
  unfold rd_pm at h'
  have H : ∀ e, e = E x → wL_lawOf_229 post mc ms x5 (nI (E 0)) (nI (E 1)) (nI (E 2)) (nI x) (nI y) (nI z) (nI e) kc ks (nI 7) (nI 3) a1 a2 a3 a4 a5 a6 := fun e ee => by
    rw [ee]
    exact rd_229 h.2.1 (rd_254 h.2.2.1 (rd_279 hS h hO hp))
  unfold wL_lawOf_195
  rw [rd_3s (show x + y ≤ 3 by omega), ← hz]
  refine nm_e (pk_eq x 0 (fun e => H _ (by rw [e])) (fun e => pk_eq x 1 (fun e' => H _ (by rw [e'])) (fun e' => H _ (by rw [show x = 2 by omega]))))
theorem rd_147 (hS : rd_S E a1 a2 a3) {who to x y z o : Nat} (hw : who < 3) (ht : to < 3) (eo : o = (if who = 0 then 1 else 0)) (ex : x = (if to = 0 then who else o))
    (ey : y = (if to = 1 then who else if to = 0 then o else 3 - who - o)) (ez : z = 3 - x - y) (hO : rd_O (rd_Ot x y z) a4) (h : rd_pm x y z) {x5 : Int32} (hp : post 1 ()) :
    wL_lawOf_147 post mc ms x5 (nI (E 0)) (nI (E 1)) (nI (E 2)) (nI who) (nI to) (nI o) kc ks (nI 7) (nI 3) a1 a2 a3 a4 a5 a6 := by
  have ho : o ≤ 1 ∧ who + o ≤ 3 := by
    rw [eo]
    split <;> omega
  have H := rd_195 (mc := mc) (ms := ms) (kc := kc) (ks := ks) (x5 := x5) (a5 := a5) (a6 := a6) hS h ez hO hp
  have H2 : wL_lawOf_170 post mc ms x5 (nI (E 0)) (nI (E 1)) (nI (E 2)) (nI who) (nI to) (nI o) (nI (3 - who - o)) (nI x) kc ks (nI 7) (nI 3) a1 a2 a3 a4 a5 a6 := by
    unfold wL_lawOf_170
    refine pk_eq to 1 (fun e => ?_) (fun e => pk_eq to 0 (fun e' => ?_) (fun e' => ?_))
    · rw [if_pos e] at ey
      rw [ey] at H
      exact H
    · rw [if_neg e, if_pos e'] at ey
      rw [ey] at H
      exact H
    · rw [if_neg e, if_neg e'] at ey
      rw [ey] at H
      exact H
  unfold wL_lawOf_147
  rw [rd_3s ho.2]
  refine nm_e (pk_eq to 0 (fun e => ?_) (fun e => ?_))
  · rw [if_pos e] at ex
    rw [ex] at H2
    exact H2
  · rw [if_neg e] at ex
    rw [ex] at H2
    exact H2
end
end
section
theorem rd_pmk {who to x y z o : Nat} (hw : who < 3) (ht : to < 3) (eo : o = (if who = 0 then 1 else 0)) (ex : x = (if to = 0 then who else o))
    (ey : y = (if to = 1 then who else if to = 0 then o else 3 - who - o)) (ez : z = 3 - x - y) : rd_pm x y z := by
  have cw : who = 0 ∨ who = 1 ∨ who = 2 := by omega
  have ct : to = 0 ∨ to = 1 ∨ to = 2 := by omega
  subst ez ey ex eo
  rcases cw with rfl | rfl | rfl <;> rcases ct with rfl | rfl | rfl <;> (unfold rd_pm; decide)
theorem rd_u3 (f : Nat → Int32) (a b c : Int32) : ∀ k, k < 3 → upd (upd (upd f 0 a) 1 b) 2 c k = (if k = 0 then a else if k = 1 then b else c) :=
  fun k hk => co_3 (P := fun k => upd (upd (upd f 0 a) 1 b) 2 c k = (if k = 0 then a else if k = 1 then b else c)) rfl rfl rfl hk
theorem rd_Sof {f g h : Nat → Int32} {e0 e1 e2 : Nat} (h0 : rd_ok e0) (h1 : rd_ok e1) (h2 : rd_ok e2) :
    rd_S (rd_Ot e0 e1 e2) (upd (upd (upd f 0 (nI (e0 % 16))) 1 (nI (e1 % 16))) 2 (nI (e2 % 16))) (upd (upd (upd g 0 (nI (e0 / 16 % 16))) 1 (nI (e1 / 16 % 16))) 2 (nI (e2 / 16 % 16)))
      (upd (upd (upd h 0 (nI (e0 / 256))) 1 (nI (e1 / 256))) 2 (nI (e2 / 256))) := by
  intro k hk
  have c : k = 0 ∨ k = 1 ∨ k = 2 := by omega
  rcases c with rfl | rfl | rfl
  · exact ⟨h0, rfl, rfl, rfl⟩
  · exact ⟨h1, rfl, rfl, rfl⟩
  · exact ⟨h2, rfl, rfl, rfl⟩
theorem rd_lawOf {post : Int32 → St0 → Prop} (hp : post 1 ()) (p0 p1 p2 p3 p4 p5 : Int32) : wpL_lawOf post 54 864 () p0 p1 p2 p3 p4 p5 := by
  obtain ⟨n, hn, en⟩ := pk_andE p3 (m := 2147483647) 31 (by decide)
  obtain ⟨m, hm, em⟩ := pk_andE p4 (m := 2147483647) 31 (by decide)
  unfold wpL_lawOf
  refine ⟨by omega, by omega, 53, 856, by omega, by omega, ?_⟩
  refine ⟨by omega, by omega, by omega, by omega, by omega, by omega, by omega, by omega, by omega, by omega, by omega, by omega, ?_⟩
  refine rd_task (fun e0 h0 => rd_task (fun e1 h1 => rd_task (fun e2 h2 => ?_)))
  refine rd_add (k := 0) (by omega) h0 (br_t rfl ?_)
  refine rd_add (k := 1) (by omega) h1 (br_t rfl ?_)
  refine rd_add (k := 2) (by omega) h2 (br_t rfl ?_)
  rw [en, em]
  refine ⟨by decide, nm_r (pk_rem (d := 3) hn (by omega) (by omega)) ⟨by decide, nm_r (pk_rem (d := 3) hm (by omega) (by omega)) ?_⟩⟩
  refine rd_place (who := n % 3) (to := m % 3) (Nat.mod_lt _ (by omega)) (Nat.mod_lt _ (by omega)) rfl rfl rfl (fun b x y z o eo ex ey ez b0 b1 b2 => br_f (by decide) ?_)
  have hw : n % 3 < 3 := Nat.mod_lt _ (by omega)
  have ht : m % 3 < 3 := Nat.mod_lt _ (by omega)
  have pm := rd_pmk hw ht eo ex ey ez
  have H := fun (mc ms kc ks : Nat) (a5 a6 : Nat → Int32) (x5 : Int32) => rd_147 (mc := mc) (ms := ms) (kc := kc) (ks := ks) (a5 := a5) (a6 := a6) (x5 := x5) (rd_Sof (f := fun _ => 0) (g := fun _ => 0) (h := fun _ => 0) h0 h1 h2) hw ht eo ex ey ez (rd_Oof pm b0 b1 b2) pm hp
  refine pk_eq (n % 3) 0 (fun e => ?_) (fun e => ?_)
  · rw [if_pos e] at eo
    rw [eo] at H
    exact H _ _ _ _ _ _ _
  · rw [if_neg e] at eo
    rw [eo] at H
    exact H _ _ _ _ _ _ _
theorem i_vc (xs : Nat → Int32) (L : Nat) (hL : L ≤ 6) : wpL_law (fun r => r = 1) L xs := by
  unfold wpL_law
  refine rd_cell (j := 0) hL (by omega) (fun r1 => rd_cell (j := 1) hL (by omega) (fun r2 => rd_cell (j := 2) hL (by omega) (fun r3 => rd_cell (j := 3) hL (by omega) (fun r4 => rd_cell (j := 4) hL (by omega) (fun r5 => rd_cell (j := 5) hL (by omega) (fun r6 => ?_))))))
  exact ⟨54, 864, by omega, by omega, rd_lawOf rfl r1 r2 r3 r4 r5 r6⟩
end
