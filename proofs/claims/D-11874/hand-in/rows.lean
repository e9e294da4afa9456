section
/-! the pure picture: words of 13 bits as naturals; each loop of the class by its mirror (m: turns left) -/
/-- ones: turns left, sum, bit -/
def hm_on (w : Nat) : Nat → Nat → Nat → Nat
  | 0, t, _ => t
  | m + 1, t, i => hm_on w m (t + w / 2 ^ i % 2) (i + 1)
def hm_pop (w : Nat) : Nat := hm_on w 13 0 0
/-- checks: turns left, xor, bit -/
def hm_ckL (w : Nat) : Nat → Nat → Nat → Nat
  | 0, c, _ => c
  | m + 1, c, i => hm_ckL w m (if w / 2 ^ i % 2 = 0 then c else c ^^^ i) (i + 1)
def hm_ck (w : Nat) : Nat := hm_ckL w 12 0 1
/-- spread: turns left, word, weight, bit -/
def hm_spL (v : Nat) : Nat → Nat → Nat → Nat → Nat
  | 0, t, _, _ => t
  | m + 1, t, k, i => if i &&& (i - 1) = 0 then hm_spL v m t k (i + 1) else hm_spL v m (t ||| v / 2 ^ k % 2 * 2 ^ i) (k + 1) (i + 1)
def hm_sp (v : Nat) : Nat := hm_spL v 10 0 0 3
/-- byteIn: turns left, value, weight, bit -/
def hm_byL (w : Nat) : Nat → Nat → Nat → Nat → Nat
  | 0, t, _, _ => t
  | m + 1, t, k, i => if i &&& (i - 1) = 0 then hm_byL w m t k (i + 1) else hm_byL w m (t ||| w / 2 ^ i % 2 * 2 ^ k) (k + 1) (i + 1)
def hm_by (w : Nat) : Nat := hm_byL w 10 0 0 3
/-- one turn of encoded's loop -/
def hm_st (c t w : Nat) : Nat := if c &&& w = 0 then t else t ||| 2 ^ w
def hm_enT (t c : Nat) : Nat := hm_st c (hm_st c (hm_st c (hm_st c t 1) 2) 4) 8
def hm_enF (t : Nat) : Nat := if hm_pop t % 2 = 0 then t else t ||| 1
def hm_en (v : Nat) : Nat := hm_enF (hm_enT (hm_sp v) (hm_ck (hm_sp v)))
/-- wrongBit: 13 for no bit, 14 for broken -/
def hm_x (w : Nat) : Nat := if hm_pop w % 2 = 0 then (if hm_ck w = 0 then 13 else 14) else (if 12 < hm_ck w then 14 else hm_ck w)
def hm_i (x : Nat) : Int32 := if x = 14 then -2 else nI x
def hm_me (w x : Nat) : Nat := if x = 13 then w else w ^^^ 2 ^ x
/-- waysOfTwo: turns left, ways, a -/
def hm_w2L (c : Nat) : Nat → Nat → Nat → Nat
  | 0, t, _ => t
  | m + 1, t, a => hm_w2L c m (if a ^^^ c ≤ a then t else if 13 ≤ a ^^^ c then t else t + 1) (a + 1)
def hm_w2 (c : Nat) : Nat := hm_w2L c 13 0 0
/-- waysOfThree, the inner loop: turns left, ways, b -/
def hm_w3I (c a : Nat) : Nat → Nat → Nat → Nat
  | 0, t, _ => t
  | m + 1, t, b => hm_w3I c a m (if (a ^^^ b) ^^^ c ≤ b then t else if 13 ≤ (a ^^^ b) ^^^ c then t else t + 1) (b + 1)
def hm_w3L (c : Nat) : Nat → Nat → Nat → Nat
  | 0, t, _ => t
  | m + 1, t, a => hm_w3L c m (hm_w3I c a m t (a + 1)) (a + 1)
def hm_w3 (c : Nat) : Nat := hm_w3L c 13 0 0
/-- the least distance, and how many codes are as near -/
def hm_l (w : Nat) : Nat := if hm_x w = 13 then 0 else if hm_x w < 13 then 1 else if hm_pop w % 2 = 0 then 2 else 3
def hm_c (w : Nat) : Nat := if hm_x w < 14 then 1 else if hm_pop w % 2 = 0 then hm_w2 (hm_ck w) else hm_w3 (hm_ck w)

/-! bounds -/
theorem hm_onB (w : Nat) : ∀ m t i, hm_on w m t i ≤ t + m := by
  intro m
  induction m with
  | zero => intro t i; exact Nat.le_refl _
  | succ m ih =>
    intro t i
    have h := ih (t + w / 2 ^ i % 2) (i + 1)
    have h2 : w / 2 ^ i % 2 < 2 := Nat.mod_lt _ (by omega)
    show hm_on w m (t + w / 2 ^ i % 2) (i + 1) ≤ _
    omega
theorem hm_popB (w : Nat) : hm_pop w ≤ 13 := by
  have h := hm_onB w 13 0 0
  unfold hm_pop
  omega
theorem hm_ckB (w : Nat) : hm_ck w < 16 := by
  have H : ∀ m c i, i + m = 13 → c < 16 → hm_ckL w m c i < 16 := by
    intro m
    induction m with
    | zero => intro c i _ h; exact h
    | succ m ih =>
      intro c i hi h
      refine ih _ (i + 1) (by omega) ?_
      split
      · exact h
      · exact Nat.xor_lt_two_pow (n := 4) h (by omega)
  exact H 12 0 1 rfl (by omega)
theorem hm_xB (w : Nat) : hm_x w ≤ 14 := by
  unfold hm_x
  split
  · split <;> omega
  · split <;> omega

/-! the table of the codes -/
def hm_KL : List Nat := [
  0, 15, 51, 60, 85, 90, 102, 105, 150, 153, 165, 170, 195, 204, 240, 255,
  771, 780, 816, 831, 854, 857, 869, 874, 917, 922, 934, 937, 960, 975, 1011, 1020,
  1285, 1290, 1334, 1337, 1360, 1375, 1379, 1388, 1427, 1436, 1440, 1455, 1478, 1481, 1525, 1530,
  1542, 1545, 1589, 1594, 1619, 1628, 1632, 1647, 1680, 1695, 1699, 1708, 1733, 1738, 1782, 1785,
  2310, 2313, 2357, 2362, 2387, 2396, 2400, 2415, 2448, 2463, 2467, 2476, 2501, 2506, 2550, 2553,
  2565, 2570, 2614, 2617, 2640, 2655, 2659, 2668, 2707, 2716, 2720, 2735, 2758, 2761, 2805, 2810,
  3075, 3084, 3120, 3135, 3158, 3161, 3173, 3178, 3221, 3226, 3238, 3241, 3264, 3279, 3315, 3324,
  3840, 3855, 3891, 3900, 3925, 3930, 3942, 3945, 3990, 3993, 4005, 4010, 4035, 4044, 4080, 4095,
  4369, 4382, 4386, 4397, 4420, 4427, 4471, 4472, 4487, 4488, 4532, 4539, 4562, 4573, 4577, 4590,
  4626, 4637, 4641, 4654, 4679, 4680, 4724, 4731, 4740, 4747, 4791, 4792, 4817, 4830, 4834, 4845,
  5140, 5147, 5159, 5160, 5185, 5198, 5234, 5245, 5250, 5261, 5297, 5310, 5335, 5336, 5348, 5355,
  5911, 5912, 5924, 5931, 5954, 5965, 6001, 6014, 6017, 6030, 6066, 6077, 6100, 6107, 6119, 6120,
  6167, 6168, 6180, 6187, 6210, 6221, 6257, 6270, 6273, 6286, 6322, 6333, 6356, 6363, 6375, 6376,
  6932, 6939, 6951, 6952, 6977, 6990, 7026, 7037, 7042, 7053, 7089, 7102, 7127, 7128, 7140, 7147,
  7442, 7453, 7457, 7470, 7495, 7496, 7540, 7547, 7556, 7563, 7607, 7608, 7633, 7646, 7650, 7661,
  7697, 7710, 7714, 7725, 7748, 7755, 7799, 7800, 7815, 7816, 7860, 7867, 7890, 7901, 7905, 7918]
def hm_K (v : Nat) : Nat := hm_KL.getD v 0
theorem hm_len : hm_KL.length = 256 := by decide +kernel
theorem hm_spB : ∀ v, v < 256 → hm_sp v < 8192 := by decide +kernel
theorem hm_enK : ∀ v, v < 256 → hm_en v = hm_K v := by decide +kernel
theorem hm_KB : ∀ v, v < 256 → hm_K v < 8192 ∧ hm_pop (hm_K v) % 2 = 0 ∧ hm_by (hm_K v) = v := by decide +kernel
theorem hm_Kin {v : Nat} (h : v < 256) : hm_K v ∈ hm_KL := by
  have h' : v < hm_KL.length := by rw [hm_len]; exact h
  unfold hm_K
  rw [List.getD_eq_getElem?_getD, List.getElem?_eq_getElem h', Option.getD_some]
  exact List.getElem_mem h'

/-! all below a bound, by the kernel -/
def hm_all (f : Nat → Bool) : Nat → Bool
  | 0 => true
  | n + 1 => f n && hm_all f n
theorem hm_allS {f : Nat → Bool} : ∀ {n : Nat}, hm_all f n = true → ∀ i, i < n → f i = true := by
  intro n
  induction n with
  | zero => intro _ i hi; exact absurd hi (by omega)
  | succ n ih =>
    intro h i hi
    have h' : (f n && hm_all f n) = true := h
    rw [Bool.and_eq_true] at h'
    by_cases e : i = n
    · rw [e]; exact h'.1
    · exact ih h'.2 i (by omega)
theorem hm_allW {f : Nat → Bool} (h : hm_all (fun a => hm_all (fun b => f (256 * a + b)) 256) 32 = true) : ∀ w, w < 8192 → f w = true := by
  intro w hw
  have e : w = 256 * (w / 256) + w % 256 := by omega
  have h1 := hm_allS (hm_allS h (w / 256) (by omega)) (w % 256) (Nat.mod_lt _ (by omega))
  rw [e]
  exact h1

/-! ones by one multiplication -/
def hm_fp (x : Nat) : Nat := Nat.mod (Nat.land (Nat.mul x 35185445863425) 76861433640456465) 15
theorem hm_fpC : hm_all (fun a => hm_all (fun b => Nat.beq (hm_fp (256 * a + b)) (hm_pop (256 * a + b))) 256) 32 = true := by decide +kernel
theorem hm_fpE {x : Nat} (h : x < 8192) : hm_fp x = hm_pop x := Nat.eq_of_beq_eq_true (hm_allW (f := fun x => Nat.beq (hm_fp x) (hm_pop x)) hm_fpC x h)

/-! two codes differ in four bits -/
theorem hm_dC : hm_KL.all (fun k => hm_KL.all (fun j => Nat.beq j k || Nat.ble 4 (hm_fp (Nat.xor j k)))) = true := by decide +kernel
theorem hm_dist {a b : Nat} (ha : a < 256) (hb : b < 256) (h : a ≠ b) : 4 ≤ hm_pop (hm_K a ^^^ hm_K b) := by
  have h1 := List.all_eq_true.mp (List.all_eq_true.mp hm_dC _ (hm_Kin hb)) _ (hm_Kin ha)
  rw [Bool.or_eq_true] at h1
  rcases h1 with h1 | h1
  · have h2 := Nat.eq_of_beq_eq_true h1
    exact absurd (by rw [← (hm_KB a ha).2.2, ← (hm_KB b hb).2.2, h2]) h
  · have h2 := Nat.le_of_ble_eq_true h1
    have h3 : hm_K a ^^^ hm_K b < 8192 := Nat.xor_lt_two_pow (n := 13) (hm_KB a ha).1 (hm_KB b hb).1
    rw [← hm_fpE h3]
    exact h2

/-! the weighted sum over the codes: weight 1000 below l, 1 at l, 0 above (T_l holds the weights, ten bits each) -/
def hm_wt (T d : Nat) : Nat := Nat.mod (Nat.shiftRight T (Nat.mul 10 d)) 1024
noncomputable def hm_S (T w : Nat) (ks : List Nat) : Nat := @List.rec Nat (fun _ => Nat) 0 (fun k _ ih => Nat.add (hm_wt T (hm_fp (Nat.xor k w))) ih) ks
def hm_T (l : Nat) : Nat := if l = 0 then 1 else if l = 1 then 2024 else if l = 2 then 2073576 else 2123342824
theorem hm_wtE : ∀ l, l < 4 → ∀ d, d < 16 → hm_wt (hm_T l) d = if d < l then 1000 else if d = l then 1 else 0 := by decide +kernel
/-- how many of d 0 .. d (n - 1) are l -/
def hm_cnt (d : Nat → Nat) (l : Nat) : Nat → Nat
  | 0 => 0
  | n + 1 => hm_cnt d l n + if d n = l then 1 else 0
theorem hm_cntF (d : Nat → Nat) (l : Nat) : ∀ n, hm_cnt d l (n + 1) = (if d 0 = l then 1 else 0) + hm_cnt (fun i => d (i + 1)) l n := by
  intro n
  induction n with
  | zero => exact Nat.add_comm 0 _
  | succ n ih =>
    show hm_cnt d l (n + 1) + (if d (n + 1) = l then 1 else 0) = _ + (hm_cnt (fun i => d (i + 1)) l n + (if d (n + 1) = l then 1 else 0))
    rw [ih]
    omega
theorem hm_cntE {d d' : Nat → Nat} {l : Nat} : ∀ {n : Nat}, (∀ i, i < n → d i = d' i) → hm_cnt d l n = hm_cnt d' l n := by
  intro n
  induction n with
  | zero => intro _; rfl
  | succ n ih =>
    intro h
    show hm_cnt d l n + _ = hm_cnt d' l n + _
    rw [ih (fun i hi => h i (by omega)), h n (by omega)]
theorem hm_cntM (d : Nat → Nat) (l : Nat) {a : Nat} : ∀ {b : Nat}, a ≤ b → hm_cnt d l a ≤ hm_cnt d l b := by
  intro b
  induction b with
  | zero => intro h; rw [show a = 0 by omega]; exact Nat.le_refl _
  | succ b ih =>
    intro h
    by_cases e : a = b + 1
    · rw [e]; exact Nat.le_refl _
    · have h1 := ih (by omega)
      show _ ≤ hm_cnt d l b + _
      omega
theorem hm_cnt1 {d : Nat → Nat} {l n : Nat} (h : hm_cnt d l n = 1) {a b : Nat} (ha : a < n) (hb : b < n) (h1 : d a = l) (h2 : d b = l) : a = b := by
  have H : ∀ a b, a < b → b < n → d a = l → d b = l → False := by
    intro a b hab hb h1 h2
    have e1 : hm_cnt d l (a + 1) = hm_cnt d l a + 1 := by
      show _ + (if d a = l then 1 else 0) = _
      rw [if_pos h1]
    have e2 : hm_cnt d l (b + 1) = hm_cnt d l b + 1 := by
      show _ + (if d b = l then 1 else 0) = _
      rw [if_pos h2]
    have e3 := hm_cntM d l (show a + 1 ≤ b by omega)
    have e4 := hm_cntM d l (show b + 1 ≤ n by omega)
    omega
  rcases Nat.lt_trichotomy a b with z | z | z
  · exact (H a b z hb h1 h2).elim
  · exact z
  · exact (H b a z ha h2 h1).elim
theorem hm_SE {l w : Nat} (hl : l < 4) : ∀ ks : List Nat, hm_S (hm_T l) w ks < 1000 → (∀ i, i < ks.length → l ≤ hm_fp (ks.getD i 0 ^^^ w)) ∧ hm_cnt (fun i => hm_fp (ks.getD i 0 ^^^ w)) l ks.length = hm_S (hm_T l) w ks := by
  intro ks
  induction ks with
  | nil => intro _; exact ⟨fun i hi => absurd hi (by simp), rfl⟩
  | cons k ks ih =>
    intro h
    have e : hm_S (hm_T l) w (k :: ks) = hm_wt (hm_T l) (hm_fp (k ^^^ w)) + hm_S (hm_T l) w ks := rfl
    have hd : hm_fp (k ^^^ w) < 15 := Nat.mod_lt _ (by omega)
    rw [hm_wtE l hl _ (by omega)] at e
    rw [e] at h
    have hlt : l ≤ hm_fp (k ^^^ w) := by
      rcases Nat.lt_or_ge (hm_fp (k ^^^ w)) l with z | z
      · rw [if_pos z] at h; omega
      · exact z
    rw [if_neg (by omega)] at e h
    obtain ⟨i1, i2⟩ := ih (by omega)
    constructor
    · intro i hi
      cases i with
      | zero => exact hlt
      | succ i => exact i1 i (by simpa using hi)
    · rw [e, ← i2]
      exact hm_cntF (fun i => hm_fp ((k :: ks).getD i 0 ^^^ w)) l ks.length
end
section
/-! the codes are closed under xor: the weighted sum of a word is that of the word without its byte -/
def hm_G : List Nat := [4369, 2310, 1285, 771, 150, 85, 51, 15]
def hm_D : List Nat → List Nat
  | [] => [0]
  | g :: gs => hm_D gs ++ (hm_D gs).map (fun k => k ^^^ g)
theorem hm_KD : hm_KL = hm_D hm_G := by decide +kernel
theorem hm_xx (k g : Nat) : (k ^^^ g) ^^^ g = k := by rw [Nat.xor_assoc, Nat.xor_self, Nat.xor_zero]
theorem hm_xr (k g h : Nat) : (k ^^^ g) ^^^ h = (k ^^^ h) ^^^ g := by rw [Nat.xor_assoc, Nat.xor_comm g h, ← Nat.xor_assoc]
theorem hm_perm {g : Nat} : ∀ {gs : List Nat}, g ∈ gs → ((hm_D gs).map (fun k => k ^^^ g)).Perm (hm_D gs) := by
  intro gs
  induction gs with
  | nil => intro h; cases h
  | cons h gs ih =>
    intro hg
    show ((hm_D gs ++ (hm_D gs).map (fun k => k ^^^ h)).map (fun k => k ^^^ g)).Perm (hm_D gs ++ (hm_D gs).map (fun k => k ^^^ h))
    rw [List.map_append, List.map_map]
    rcases List.mem_cons.mp hg with e | e
    · subst e
      have e2 : (hm_D gs).map ((fun k => k ^^^ g) ∘ fun k => k ^^^ g) = hm_D gs := by
        rw [show ((fun k => k ^^^ g) ∘ fun k => k ^^^ g) = id from funext (fun k => hm_xx k g), List.map_id]
      rw [e2]
      exact List.perm_append_comm
    · have e2 : (hm_D gs).map ((fun k => k ^^^ g) ∘ fun k => k ^^^ h) = ((hm_D gs).map (fun k => k ^^^ g)).map (fun k => k ^^^ h) := by
        rw [List.map_map, show ((fun k => k ^^^ g) ∘ fun k => k ^^^ h) = ((fun k => k ^^^ h) ∘ fun k => k ^^^ g) from funext (fun k => hm_xr k h g)]
      rw [e2]
      exact (ih e).append ((ih e).map _)
theorem hm_Sperm {T w : Nat} {l1 l2 : List Nat} (h : l1.Perm l2) : hm_S T w l1 = hm_S T w l2 := by
  induction h with
  | nil => rfl
  | cons x _ ih => exact congrArg (fun s => hm_wt T (hm_fp (x ^^^ w)) + s) ih
  | swap x y l => exact Nat.add_left_comm _ _ _
  | trans _ _ i1 i2 => exact i1.trans i2
theorem hm_Smap {T w g : Nat} : ∀ ks : List Nat, hm_S T (w ^^^ g) ks = hm_S T w (ks.map (fun k => k ^^^ g)) := by
  intro ks
  induction ks with
  | nil => rfl
  | cons k ks ih =>
    show hm_wt T (hm_fp (k ^^^ (w ^^^ g))) + hm_S T (w ^^^ g) ks = hm_wt T (hm_fp ((k ^^^ g) ^^^ w)) + hm_S T w (ks.map (fun k => k ^^^ g))
    rw [ih, ← Nat.xor_assoc, hm_xr k w g]
theorem hm_Sx {T w g : Nat} (hg : g ∈ hm_G) : hm_S T (w ^^^ g) hm_KL = hm_S T w hm_KL := by
  rw [hm_Smap, hm_KD]
  exact hm_Sperm (hm_perm hg)
/-- a word without its byte: for each bit of the byte its mask and its code -/
def hm_MG : List (Nat × Nat) := [(8, 15), (32, 51), (64, 85), (128, 150), (512, 771), (1024, 1285), (2048, 2310), (4096, 4369)]
def hm_red : List (Nat × Nat) → Nat → Nat
  | [], w => w
  | x :: t, w => hm_red t (cond (Nat.beq (Nat.land w x.1) 0) w (Nat.xor w x.2))
theorem hm_redS {T : Nat} : ∀ (t : List (Nat × Nat)) (w : Nat), (∀ x, x ∈ t → x.2 ∈ hm_G) → hm_S T (hm_red t w) hm_KL = hm_S T w hm_KL := by
  intro t
  induction t with
  | nil => intro w _; rfl
  | cons x t ih =>
    intro w h
    show hm_S T (hm_red t (cond (Nat.beq (Nat.land w x.1) 0) w (Nat.xor w x.2))) hm_KL = _
    rw [ih _ (fun y hy => h y (List.mem_cons_of_mem _ hy))]
    cases Nat.beq (Nat.land w x.1) 0 with
    | true => rfl
    | false => exact hm_Sx (h x List.mem_cons_self)
theorem hm_MGG : ∀ x, x ∈ hm_MG → x.2 ∈ hm_G := by decide +kernel
/-- the 32 words without a byte -/
def hm_E : List Nat := [0, 1, 2, 3, 4, 5, 6, 7, 16, 17, 18, 19, 20, 21, 22, 23, 256, 257, 258, 259, 260, 261, 262, 263, 272, 273, 274, 275, 276, 277, 278, 279]
noncomputable def hm_okE (e : Nat) : Bool := Nat.beq (hm_S (hm_T (hm_l e)) e hm_KL) (hm_c e) && (Nat.ble 1 (hm_c e) && (Nat.ble (hm_c e) 999 && Nat.ble e 8191))
theorem hm_okEA : hm_E.all hm_okE = true := by decide +kernel

/-! every word: the kernel's look -/
def hm_ok (w : Nat) : Bool :=
  hm_E.any (fun e => Nat.beq e (hm_red hm_MG w)) && (Nat.beq (hm_ck w) (hm_ck (hm_red hm_MG w)) && (Nat.beq (Nat.mod (hm_fp w) 2) (Nat.mod (hm_fp (hm_red hm_MG w)) 2) &&
    cond (Nat.ble (hm_x w) 13)
      (cond (Nat.beq (hm_x w) 13)
        (Nat.beq (hm_K (hm_by w)) w && Nat.ble (hm_by w) 255)
        (Nat.beq (hm_x (Nat.xor w (Nat.pow 2 (hm_x w)))) 13))
      true))
theorem hm_okC0 : hm_all (fun a => hm_all (fun b => hm_ok (256 * (2 * 0 + a) + b)) 256) 2 = true := by decide +kernel
theorem hm_okC1 : hm_all (fun a => hm_all (fun b => hm_ok (256 * (2 * 1 + a) + b)) 256) 2 = true := by decide +kernel
theorem hm_okC2 : hm_all (fun a => hm_all (fun b => hm_ok (256 * (2 * 2 + a) + b)) 256) 2 = true := by decide +kernel
theorem hm_okC3 : hm_all (fun a => hm_all (fun b => hm_ok (256 * (2 * 3 + a) + b)) 256) 2 = true := by decide +kernel
theorem hm_okC4 : hm_all (fun a => hm_all (fun b => hm_ok (256 * (2 * 4 + a) + b)) 256) 2 = true := by decide +kernel
theorem hm_okC5 : hm_all (fun a => hm_all (fun b => hm_ok (256 * (2 * 5 + a) + b)) 256) 2 = true := by decide +kernel
theorem hm_okC6 : hm_all (fun a => hm_all (fun b => hm_ok (256 * (2 * 6 + a) + b)) 256) 2 = true := by decide +kernel
theorem hm_okC7 : hm_all (fun a => hm_all (fun b => hm_ok (256 * (2 * 7 + a) + b)) 256) 2 = true := by decide +kernel
theorem hm_okC8 : hm_all (fun a => hm_all (fun b => hm_ok (256 * (2 * 8 + a) + b)) 256) 2 = true := by decide +kernel
theorem hm_okC9 : hm_all (fun a => hm_all (fun b => hm_ok (256 * (2 * 9 + a) + b)) 256) 2 = true := by decide +kernel
theorem hm_okC10 : hm_all (fun a => hm_all (fun b => hm_ok (256 * (2 * 10 + a) + b)) 256) 2 = true := by decide +kernel
theorem hm_okC11 : hm_all (fun a => hm_all (fun b => hm_ok (256 * (2 * 11 + a) + b)) 256) 2 = true := by decide +kernel
theorem hm_okC12 : hm_all (fun a => hm_all (fun b => hm_ok (256 * (2 * 12 + a) + b)) 256) 2 = true := by decide +kernel
theorem hm_okC13 : hm_all (fun a => hm_all (fun b => hm_ok (256 * (2 * 13 + a) + b)) 256) 2 = true := by decide +kernel
theorem hm_okC14 : hm_all (fun a => hm_all (fun b => hm_ok (256 * (2 * 14 + a) + b)) 256) 2 = true := by decide +kernel
theorem hm_okC15 : hm_all (fun a => hm_all (fun b => hm_ok (256 * (2 * 15 + a) + b)) 256) 2 = true := by decide +kernel
theorem hm_okQ : ∀ q, q < 16 → hm_all (fun a => hm_all (fun b => hm_ok (256 * (2 * q + a) + b)) 256) 2 = true
  | 0, _ => hm_okC0
  | 1, _ => hm_okC1
  | 2, _ => hm_okC2
  | 3, _ => hm_okC3
  | 4, _ => hm_okC4
  | 5, _ => hm_okC5
  | 6, _ => hm_okC6
  | 7, _ => hm_okC7
  | 8, _ => hm_okC8
  | 9, _ => hm_okC9
  | 10, _ => hm_okC10
  | 11, _ => hm_okC11
  | 12, _ => hm_okC12
  | 13, _ => hm_okC13
  | 14, _ => hm_okC14
  | 15, _ => hm_okC15
  | q + 16, h => absurd h (by omega)
theorem hm_okA {w : Nat} (hw : w < 8192) : hm_ok w = true := by
  have e : 256 * (2 * (w / 512) + w / 256 % 2) + w % 256 = w := by omega
  have h1 := hm_allS (hm_allS (hm_okQ (w / 512) (by omega)) (w / 256 % 2) (Nat.mod_lt _ (by omega))) (w % 256) (Nat.mod_lt _ (by omega))
  rw [e] at h1
  exact h1
theorem hm_sum {l w c : Nat} (hl : l < 4) (hw : w < 8192) (hs : hm_S (hm_T l) w hm_KL = c) (hc : c < 1000) : (∀ b, b < 256 → l ≤ hm_pop (hm_K b ^^^ w)) ∧ hm_cnt (fun b => hm_pop (hm_K b ^^^ w)) l 256 = c := by
  obtain ⟨h1, h2⟩ := hm_SE hl hm_KL (by rw [hs]; exact hc)
  rw [hm_len] at h1 h2
  have hB : ∀ b, b < 256 → hm_K b ^^^ w < 8192 := fun b hb => Nat.xor_lt_two_pow (n := 13) (hm_KB b hb).1 hw
  constructor
  · intro b hb
    rw [← hm_fpE (hB b hb)]
    exact h1 b hb
  · rw [← hs, ← h2]
    exact hm_cntE (fun b hb => (hm_fpE (hB b hb)).symm)
/-- the law's loop over the codes, of any word -/
theorem hm_fact {w : Nat} (hw : w < 8192) : (∀ b, b < 256 → hm_l w ≤ hm_pop (hm_K b ^^^ w)) ∧ hm_cnt (fun b => hm_pop (hm_K b ^^^ w)) (hm_l w) 256 = hm_c w ∧ 1 ≤ hm_c w := by
  have h := hm_okA hw
  unfold hm_ok at h
  simp only [Bool.and_eq_true, List.any_eq_true] at h
  obtain ⟨⟨e, he, e0⟩, e1, e2, _⟩ := h
  have e0 := Nat.eq_of_beq_eq_true e0
  have e1 := Nat.eq_of_beq_eq_true e1
  have e2 := Nat.eq_of_beq_eq_true e2
  have hE := List.all_eq_true.mp hm_okEA e he
  unfold hm_okE at hE
  simp only [Bool.and_eq_true] at hE
  obtain ⟨g1, g2, g3, g4⟩ := hE
  have g1 := Nat.eq_of_beq_eq_true g1
  have g2 := Nat.le_of_ble_eq_true g2
  have g3 := Nat.le_of_ble_eq_true g3
  have g4 := Nat.le_of_ble_eq_true g4
  rw [← e0] at e1 e2
  have e2 : hm_fp w % 2 = hm_fp e % 2 := e2
  rw [hm_fpE hw, hm_fpE (by omega)] at e2
  have ex : hm_x w = hm_x e := by unfold hm_x; rw [e1, e2]
  have el : hm_l w = hm_l e := by unfold hm_l; rw [ex, e2]
  have ec : hm_c w = hm_c e := by unfold hm_c; rw [ex, e2, e1]
  have hl : hm_l e < 4 := by
    unfold hm_l
    split
    · omega
    · split
      · omega
      · split <;> omega
  have hs : hm_S (hm_T (hm_l e)) w hm_KL = hm_c e := by rw [← g1, e0]; exact (hm_redS hm_MG w hm_MGG).symm
  rw [el, ec]
  have s := hm_sum hl hw hs (by omega)
  exact ⟨s.1, s.2, g2⟩
/-- a word without a wrong bit is the code of its byte -/
theorem hm_fix13 {w : Nat} (hw : w < 8192) (h13 : hm_x w = 13) : hm_K (hm_by w) = w ∧ hm_by w < 256 := by
  have h := hm_okA hw
  unfold hm_ok at h
  have e1 : Nat.ble (hm_x w) 13 = true := by rw [h13]; rfl
  have e2 : Nat.beq (hm_x w) 13 = true := by rw [h13]; rfl
  rw [e1, e2] at h
  simp only [cond_true, Bool.and_eq_true] at h
  have h3 := Nat.le_of_ble_eq_true h.2.2.2.2
  exact ⟨Nat.eq_of_beq_eq_true h.2.2.2.1, by omega⟩
theorem hm_one : ∀ x, x < 13 → hm_pop (2 ^ x) = 1 := by decide +kernel
theorem hm_meB {w x : Nat} (hw : w < 8192) (hx : x < 14) : hm_me w x < 8192 := by
  unfold hm_me
  by_cases h : x = 13
  · rw [if_pos h]; exact hw
  · rw [if_neg h]
    exact Nat.xor_lt_two_pow (n := 13) hw (Nat.pow_lt_pow_right (by omega) (by omega))
/-- a sound word, mended, is the code of its byte, and as far away as hm_l says -/
theorem hm_fix {w : Nat} (hw : w < 8192) (hx : hm_x w < 14) : hm_K (hm_by (hm_me w (hm_x w))) = hm_me w (hm_x w) ∧ hm_by (hm_me w (hm_x w)) < 256 ∧ hm_pop (hm_me w (hm_x w) ^^^ w) = hm_l w := by
  by_cases h13 : hm_x w = 13
  · have e : hm_me w (hm_x w) = w := by unfold hm_me; rw [if_pos h13]
    have f := hm_fix13 hw h13
    rw [e, Nat.xor_self]
    refine ⟨f.1, f.2, ?_⟩
    unfold hm_l
    rw [if_pos h13]
    decide
  · have e : hm_me w (hm_x w) = w ^^^ 2 ^ hm_x w := by unfold hm_me; rw [if_neg h13]
    have hu : hm_me w (hm_x w) < 8192 := hm_meB hw hx
    have h := hm_okA hw
    unfold hm_ok at h
    have e1 : Nat.ble (hm_x w) 13 = true := Nat.ble_eq_true_of_le (by omega)
    have e2 : Nat.beq (hm_x w) 13 = false := by
      cases z : Nat.beq (hm_x w) 13 with
      | false => rfl
      | true => exact absurd (Nat.eq_of_beq_eq_true z) h13
    rw [e1, e2] at h
    simp only [cond_true, cond_false, Bool.and_eq_true] at h
    have h3 : hm_x (w ^^^ 2 ^ hm_x w) = 13 := Nat.eq_of_beq_eq_true h.2.2.2
    rw [← e] at h3
    have f := hm_fix13 hu h3
    refine ⟨f.1, f.2, ?_⟩
    rw [e, Nat.xor_comm w, Nat.xor_assoc, Nat.xor_self, Nat.xor_zero, hm_one _ (by omega)]
    unfold hm_l
    rw [if_neg h13, if_pos (by omega)]
end
section
/-! bits of nI -/
theorem hm_and (a b : Nat) : nI a &&& nI b = nI (a &&& b) := by
  apply Int32.toBitVec_inj.1
  show BitVec.ofNat 32 a &&& BitVec.ofNat 32 b = BitVec.ofNat 32 (a &&& b)
  apply BitVec.eq_of_getLsbD_eq
  intro i hi
  simp [hi]
theorem hm_or (a b : Nat) : nI a ||| nI b = nI (a ||| b) := by
  apply Int32.toBitVec_inj.1
  show BitVec.ofNat 32 a ||| BitVec.ofNat 32 b = BitVec.ofNat 32 (a ||| b)
  apply BitVec.eq_of_getLsbD_eq
  intro i hi
  simp [hi]
theorem hm_xor (a b : Nat) : nI a ^^^ nI b = nI (a ^^^ b) := by
  apply Int32.toBitVec_inj.1
  show BitVec.ofNat 32 a ^^^ BitVec.ofNat 32 b = BitVec.ofNat 32 (a ^^^ b)
  apply BitVec.eq_of_getLsbD_eq
  intro i hi
  simp [hi]
theorem hm_sl : ∀ n, n < 32 → ((nI n &&& 31).toBitVec.smod 32).toNat = n := by decide +kernel
theorem hm_bit {w i : Nat} (hw : w < 8192) (hi : i < 32) : (nI w >>> (nI i &&& 31)) &&& 1 = nI (w / 2 ^ i % 2) := by
  have h : w / 2 ^ i ≤ w := Nat.div_le_self _ _
  rw [pk_shrN (by omega) _ i (hm_sl i hi)]
  exact pk_andN (by omega) 1 (by decide)
theorem hm_shl : ∀ x, x < 14 → (1 : Int32) <<< (nI x &&& 31) = nI (2 ^ x) := by decide +kernel
theorem hm_shlB : ∀ x, x < 14 → ∀ b, b < 2 → nI b <<< (nI x &&& 31) = nI (b * 2 ^ x) := by decide +kernel
theorem hm_cast {t : Nat} (h : t < 32768) : (nI t).toInt16.toInt32 = nI t := by
  apply Int32.toInt_inj.mp
  rw [Int16.toInt_toInt32, Int32.toInt_toInt16, nI_toInt (by omega)]
  exact Int.bmod_eq_of_le (by omega) (by omega)
theorem hm_b2 (w i : Nat) : w / 2 ^ i % 2 < 2 := Nat.mod_lt _ (by omega)

/-! the class's own loops -/
theorem hm_onI {post : Int32 → Prop} {w : Nat} {f : Int32} {a : Nat → Int32} (hw : w < 8192) : ∀ m t i, i + m = 13 → post (nI (hm_on w m t i)) → wX_onesIn_4 post (nI w) f a (m + 1) (nI t) (nI i) := by
  intro m
  induction m with
  | zero =>
    intro t i hi hp
    exact pk_le 13 i (fun _ => hp) (fun z => absurd z (by omega))
  | succ m ih =>
    intro t i hi hp
    refine pk_le 13 i (fun z => absurd z (by omega)) (fun _ => nm_r (e' := nI (t + w / 2 ^ i % 2)) ?_ (nm_r (nI_1 i) (ih (t + w / 2 ^ i % 2) (i + 1) (by omega) hp)))
    rw [hm_bit hw (by omega), nI_add]
theorem hm_ones {post : Int32 → Prop} {w : Nat} {f : Int32} {a : Nat → Int32} (hw : w < 8192) (hp : post (nI (hm_pop w))) : wpX_onesIn post (f, a) (nI w) := by
  unfold wpX_onesIn
  exact ⟨14, hm_onI hw 13 0 0 rfl hp⟩
theorem hm_ckI {post : Int32 → Prop} {w : Nat} {f : Int32} {a : Nat → Int32} (hw : w < 8192) : ∀ m c i, i + m = 13 → post (nI (hm_ckL w m c i)) → wX_checksOf_4 post (nI w) f a (m + 1) (nI c) (nI i) := by
  intro m
  induction m with
  | zero =>
    intro c i hi hp
    exact pk_le 13 i (fun _ => hp) (fun z => absurd z (by omega))
  | succ m ih =>
    intro c i hi hp
    unfold hm_ckL at hp
    have hb := hm_b2 w i
    refine pk_le 13 i (fun z => absurd z (by omega)) (fun _ => ?_)
    refine pk_eq (w / 2 ^ i % 2) 0 (fun z => nm_r (nI_1 i) (ih c (i + 1) (by omega) ?_)) (fun z => nm_r (hm_xor c i) (nm_r (nI_1 i) (ih (c ^^^ i) (i + 1) (by omega) ?_))) (hx := hm_bit hw (by omega))
    · rw [if_pos z] at hp; exact hp
    · rw [if_neg z] at hp; exact hp
theorem hm_cks {post : Int32 → Prop} {w : Nat} {f : Int32} {a : Nat → Int32} (hw : w < 8192) (hp : post (nI (hm_ck w))) : wpX_checksOf post (f, a) (nI w) := by
  unfold wpX_checksOf
  exact ⟨13, hm_ckI hw 12 0 1 rfl hp⟩
theorem hm_pw {i : Nat} (h : 1 ≤ i) : nI i &&& (nI i - 1) = nI (i &&& (i - 1)) := by
  obtain ⟨k, rfl⟩ : ∃ k, i = k + 1 := ⟨i - 1, by omega⟩
  rw [nI_pred, hm_and]
  rfl
theorem hm_andB {a b : Nat} : a &&& b ≤ a := Nat.and_le_left
theorem hm_spI {post : Int32 → Prop} {v : Nat} {f : Int32} {a : Nat → Int32} (hv : v < 8192) : ∀ m t k i, i + m = 13 → 1 ≤ i → k ≤ i → post (nI (hm_spL v m t k i)) → wX_spread_7 post (nI v) f a (m + 1) (nI t) (nI k) (nI i) := by
  intro m
  induction m with
  | zero =>
    intro t k i hi _ _ hp
    exact pk_le 13 i (fun _ => hp) (fun z => absurd z (by omega))
  | succ m ih =>
    intro t k i hi h1 hk hp
    unfold hm_spL at hp
    have hb := @hm_andB i (i - 1)
    refine pk_le 13 i (fun z => absurd z (by omega)) (fun _ => ?_)
    refine pk_eq (i &&& (i - 1)) 0 (fun z => nm_r (nI_1 i) (ih t k (i + 1) (by omega) (by omega) (by omega) ?_)) (fun z => nm_r (e' := nI (t ||| v / 2 ^ k % 2 * 2 ^ i)) ?_ (nm_r (nI_1 k) (nm_r (nI_1 i) (ih (t ||| v / 2 ^ k % 2 * 2 ^ i) (k + 1) (i + 1) (by omega) (by omega) (by omega) ?_)))) (hx := hm_pw h1)
    · rw [if_pos z] at hp; exact hp
    · rw [hm_bit hv (by omega), hm_shlB i (by omega) _ (hm_b2 v k), hm_or]
    · rw [if_neg z] at hp; exact hp
theorem hm_spr {post : Int32 → Prop} {v : Nat} {f : Int32} {a : Nat → Int32} (hv : v < 8192) (hp : post (nI (hm_sp v))) : wpX_spread post (f, a) (nI v) := by
  unfold wpX_spread
  exact ⟨11, hm_spI hv 10 0 0 3 rfl (by omega) (by omega) hp⟩
theorem hm_byI {post : Int32 → Prop} {w : Nat} {f : Int32} {a : Nat → Int32} (hw : w < 8192) : ∀ m t k i, i + m = 13 → 1 ≤ i → k ≤ i → post (nI (hm_byL w m t k i)) → wX_byteIn_7 post (nI w) f a (m + 1) (nI t) (nI k) (nI i) := by
  intro m
  induction m with
  | zero =>
    intro t k i hi _ _ hp
    exact pk_le 13 i (fun _ => hp) (fun z => absurd z (by omega))
  | succ m ih =>
    intro t k i hi h1 hk hp
    unfold hm_byL at hp
    have hb := @hm_andB i (i - 1)
    refine pk_le 13 i (fun z => absurd z (by omega)) (fun _ => ?_)
    refine pk_eq (i &&& (i - 1)) 0 (fun z => nm_r (nI_1 i) (ih t k (i + 1) (by omega) (by omega) (by omega) ?_)) (fun z => nm_r (e' := nI (t ||| w / 2 ^ i % 2 * 2 ^ k)) ?_ (nm_r (nI_1 k) (nm_r (nI_1 i) (ih (t ||| w / 2 ^ i % 2 * 2 ^ k) (k + 1) (i + 1) (by omega) (by omega) (by omega) ?_)))) (hx := hm_pw h1)
    · rw [if_pos z] at hp; exact hp
    · rw [hm_bit hw (by omega), hm_shlB k (by omega) _ (hm_b2 w i), hm_or]
    · rw [if_neg z] at hp; exact hp
theorem hm_byt {post : Int32 → Prop} {w : Nat} {f : Int32} {a : Nat → Int32} (hw : w < 8192) (hp : post (nI (hm_by w))) : wpX_byteIn post (f, a) (nI w) := by
  unfold wpX_byteIn
  exact ⟨11, hm_byI hw 10 0 0 3 rfl (by omega) (by omega) hp⟩
theorem hm_odd {post : Int32 → Prop} {w : Nat} {f : Int32} {a : Nat → Int32} (hw : w < 8192) (hp : post (nI (hm_pop w % 2))) : wpX_isOdd post (f, a) (nI w) := by
  unfold wpX_isOdd
  dsimp only
  refine hm_ones hw ?_
  have hB := hm_popB w
  refine pk_eq (hm_pop w % 2) 0 (fun z => ?_) (fun z => ?_) (hx := pk_andN (by omega) 1 (by decide))
  · rw [z] at hp; exact hp
  · rw [show hm_pop w % 2 = 1 by omega] at hp; exact hp
theorem hm_iN {x : Nat} (h : x < 14) : hm_i x = nI x := if_neg (by omega)
theorem hm_i14 : hm_i 14 = -2 := rfl
theorem hm_wb {post : Int32 → Prop} {w : Nat} {f : Int32} {a : Nat → Int32} (hw : w < 8192) (hp : post (hm_i (hm_x w))) : wpX_wrongBit post (f, a) (nI w) := by
  unfold wpX_wrongBit
  dsimp only
  have hc := hm_ckB w
  unfold hm_x at hp
  refine hm_cks hw (hm_odd hw ?_)
  refine pk_eq (hm_pop w % 2) 0 (fun z => pk_eq (hm_ck w) 0 (fun y => ?_) (fun y => ?_)) (fun z => pk_lt 12 (hm_ck w) (fun y => ?_) (fun y => ?_))
  · rw [if_pos z, if_pos y] at hp; exact hp
  · rw [if_pos z, if_neg y] at hp; exact hp
  · rw [if_neg z, if_pos y] at hp; exact hp
  · rw [if_neg z, if_neg (by omega), hm_iN (by omega)] at hp; exact hp
theorem hm_men {post : Int32 → Prop} {w x : Nat} {f : Int32} {a : Nat → Int32} (hx : x < 14) (hp : post (nI (hm_me w x))) : wpX_mended post (f, a) (nI w) (nI x) := by
  unfold wpX_mended
  dsimp only
  unfold hm_me at hp
  refine pk_eq x 13 (fun z => ?_) (fun z => ?_)
  · rw [if_pos z] at hp; exact hp
  · rw [if_neg z] at hp
    rw [hm_shl x hx, hm_xor]
    exact hp
theorem hm_isW {post : Int32 → Prop} {j : Nat} {f : Int32} {a : Nat → Int32} (hj : j < 16) (hp : post 1) : wpX_isWord post (f, a) (nI j) := by
  unfold wpX_isWord
  dsimp only
  exact pk_lt j 0 (fun z => absurd z (by omega)) (fun _ => pk_lt 15 j (fun z => absurd z (by omega)) (fun _ => hp))

/-! encoded -/
theorem hm_enS {post : Int32 → Prop} {c t w n : Nat} {f : Int32} {a : Nat → Int32} (hc : c < 16) (hw : w ≤ 8) (h : wX_encoded_15 post (nI c) f a n (nI (hm_st c t w)) (nI (w * 2))) : wX_encoded_15 post (nI c) f a (n + 1) (nI t) (nI w) := by
  have hb := @hm_andB c w
  unfold hm_st at h
  refine pk_lt 8 w (fun z => absurd z (by omega)) (fun _ => ?_)
  refine pk_eq (c &&& w) 0 (fun z => nm_r (pk_mul w 2) ?_) (fun z => nm_r (e' := nI (t ||| 2 ^ w)) ?_ (nm_r (pk_mul w 2) ?_)) (hx := hm_and c w)
  · rw [if_pos z] at h; exact h
  · rw [hm_shl w (by omega), hm_or]
  · rw [if_neg z] at h; exact h
theorem hm_stB {c t w : Nat} (hw : w ≤ 8) (h : t < 8192) : hm_st c t w < 8192 := by
  unfold hm_st
  split
  · exact h
  · exact Nat.or_lt_two_pow (n := 13) h (Nat.pow_lt_pow_right (by omega) (by omega))
theorem hm_enE {post : Int32 → Prop} {c : Int32} {t n : Nat} {f : Int32} {a : Nat → Int32} (ht : t < 8192) (hp : post (nI (hm_enF t))) : wX_encoded_15 post c f a (n + 1) (nI t) (nI 16) := by
  unfold hm_enF at hp
  refine pk_lt 8 16 (fun _ => hm_odd ht ?_) (fun z => absurd z (by omega))
  refine pk_eq (hm_pop t % 2) 0 (fun z => ?_) (fun z => ?_)
  · rw [if_pos z] at hp; exact hp
  · rw [if_neg z, ← hm_or] at hp; exact hp
theorem hm_enc {post : Int32 → Prop} {v : Nat} {f : Int32} {a : Nat → Int32} (hv : v < 256) (hp : post (nI (hm_K v))) : wpX_encoded post (f, a) (nI v) := by
  unfold wpX_encoded
  dsimp only
  have hs := hm_spB v hv
  have hc := hm_ckB (hm_sp v)
  have hT : hm_enT (hm_sp v) (hm_ck (hm_sp v)) < 8192 := hm_stB (by omega) (hm_stB (by omega) (hm_stB (by omega) (hm_stB (by omega) hs)))
  rw [← hm_enK v hv] at hp
  unfold hm_en at hp
  exact hm_spr (by omega) (hm_cks hs ⟨5, hm_enS (w := 1) hc (by omega) (hm_enS (w := 2) hc (by omega) (hm_enS (w := 4) hc (by omega) (hm_enS (w := 8) hc (by omega) (hm_enE hT hp))))⟩)

/-! the ways -/
theorem hm_w2I {post : Int32 → Prop} {c : Nat} {f : Int32} {a : Nat → Int32} (hc : c < 16) : ∀ m t i, i + m = 13 → post (nI (hm_w2L c m t i)) → wX_waysOfTwo_4 post (nI c) f a (m + 1) (nI t) (nI i) := by
  intro m
  induction m with
  | zero =>
    intro t i hi hp
    exact pk_le 13 i (fun _ => hp) (fun z => absurd z (by omega))
  | succ m ih =>
    intro t i hi hp
    unfold hm_w2L at hp
    have hb : i ^^^ c < 16 := Nat.xor_lt_two_pow (n := 4) (by omega) hc
    refine pk_le 13 i (fun z => absurd z (by omega)) (fun _ => nm_r (hm_xor i c) ?_)
    refine pk_le (i ^^^ c) i (fun z => nm_r (nI_1 i) (ih t (i + 1) (by omega) ?_)) (fun z => pk_le 13 (i ^^^ c) (fun y => nm_r (nI_1 i) (ih t (i + 1) (by omega) ?_)) (fun y => nm_r (nI_1 t) (nm_r (nI_1 i) (ih (t + 1) (i + 1) (by omega) ?_))))
    · rw [if_pos z] at hp; exact hp
    · rw [if_neg (by omega), if_pos y] at hp; exact hp
    · rw [if_neg (by omega), if_neg (by omega)] at hp; exact hp
theorem hm_wa2 {post : Int32 → Prop} {c : Nat} {f : Int32} {a : Nat → Int32} (hc : c < 16) (hp : post (nI (hm_w2 c))) : wpX_waysOfTwo post (f, a) (nI c) := by
  unfold wpX_waysOfTwo
  exact ⟨14, hm_w2I hc 13 0 0 rfl hp⟩
theorem hm_w3J {post : Int32 → Prop} {J : Int32 → Int32 → Prop} {c x : Nat} {f : Int32} {a : Nat → Int32} (hc : c < 16) (hx : x < 13) : ∀ m t i, i + m = 13 → J (nI (hm_w3I c x m t i)) (nI (x + 1)) → wX_waysOfThree_15 post J (nI c) (nI x) f a (m + 1) (nI t) (nI i) := by
  intro m
  induction m with
  | zero =>
    intro t i hi hp
    exact pk_le 13 i (fun _ => nm_r (nI_1 x) hp) (fun z => absurd z (by omega))
  | succ m ih =>
    intro t i hi hp
    unfold hm_w3I at hp
    have hb : (x ^^^ i) ^^^ c < 16 := Nat.xor_lt_two_pow (n := 4) (Nat.xor_lt_two_pow (n := 4) (by omega) (by omega)) hc
    refine pk_le 13 i (fun z => absurd z (by omega)) (fun _ => nm_r (e' := nI ((x ^^^ i) ^^^ c)) (by rw [hm_xor, hm_xor]) ?_)
    refine pk_le ((x ^^^ i) ^^^ c) i (fun z => nm_r (nI_1 i) (ih t (i + 1) (by omega) ?_)) (fun z => pk_le 13 ((x ^^^ i) ^^^ c) (fun y => nm_r (nI_1 i) (ih t (i + 1) (by omega) ?_)) (fun y => nm_r (nI_1 t) (nm_r (nI_1 i) (ih (t + 1) (i + 1) (by omega) ?_))))
    · rw [if_pos z] at hp; exact hp
    · rw [if_neg (by omega), if_pos y] at hp; exact hp
    · rw [if_neg (by omega), if_neg (by omega)] at hp; exact hp
theorem hm_w3K {post : Int32 → Prop} {c : Nat} {f : Int32} {a : Nat → Int32} (hc : c < 16) : ∀ m t i, i + m = 13 → post (nI (hm_w3L c m t i)) → wX_waysOfThree_4 post (nI c) f a (m + 1) (nI t) (nI i) := by
  intro m
  induction m with
  | zero =>
    intro t i hi hp
    exact pk_le 13 i (fun _ => hp) (fun z => absurd z (by omega))
  | succ m ih =>
    intro t i hi hp
    refine pk_le 13 i (fun z => absurd z (by omega)) (fun _ => nm_r (nI_1 i) ⟨m + 1, hm_w3J hc (by omega) m t (i + 1) (by omega) ?_⟩)
    exact ih _ (i + 1) (by omega) hp
theorem hm_wa3 {post : Int32 → Prop} {c : Nat} {f : Int32} {a : Nat → Int32} (hc : c < 16) (hp : post (nI (hm_w3 c))) : wpX_waysOfThree post (f, a) (nI c) := by
  unfold wpX_waysOfThree
  exact ⟨14, hm_w3K hc 13 0 0 rfl hp⟩
end
section
/-! the calls: place 3 holds the word w, the other places 0 -/
def hm_A (a : Nat → Int32) (w : Nat) : Prop := ∀ j, j < 16 → a j = nI (if j = 3 then w else 0)
theorem hm_A3 {a : Nat → Int32} {w : Nat} (A : hm_A a w) : a 3 = nI w := A 3 (by omega)
theorem hm_Au {a : Nat → Int32} {w t : Nat} (A : hm_A a w) : hm_A (upd a 3 (nI t)) t := by
  intro j hj
  by_cases e : j = 3
  · rw [e, pk_us, if_pos rfl]
  · rw [pk_un e, A j hj, if_neg e, if_neg e]
theorem hm_Az {a : Nat → Int32} {w k : Nat} (A : hm_A a w) (hk : k ≠ 3) : hm_A (upd a k (nI 0)) w := by
  intro j hj
  by_cases e : j = k
  · rw [e, pk_us, if_neg hk]
  · rw [pk_un e, A j hj]
theorem hm_n2 : ∀ x, x < 16 → ¬ nI x = -2 := by decide +kernel
theorem hm_x0 : hm_x 0 = 13 := by decide +kernel
theorem hm_write {post : Int32 → St2 → Prop} {v : Nat} {f : Int32} {a : Nat → Int32} (hv : v < 256) (hp : post (nI (hm_K v)) (f, upd a 3 (nI (hm_K v)))) : wpX_write post (f, a) 3 (nI v) := by
  unfold wpX_write
  dsimp only
  have hK := (hm_KB v hv).1
  refine hm_isW (j := 3) (by omega) (br_f (by decide) (pk_lt v 0 (fun z => absurd z (by omega)) (fun _ => pk_le v 255 (fun _ => hm_enc hv ⟨pk_in 3 16 (by omega), nm_r (e' := upd a 3 (nI (hm_K v))) ?_ ⟨pk_in 3 16 (by omega), ?_⟩⟩) (fun z => absurd z (by omega)))))
  · rw [hm_cast (by omega)]; rfl
  · show post (upd a 3 (nI (hm_K v)) 3) _
    rw [pk_us]
    exact hp
theorem hm_flip {post : Int32 → St2 → Prop} {t i : Nat} {f : Int32} {a : Nat → Int32} (hi : i < 13) (ht : t < 8192) (ha : a 3 = nI t) (hp : post (nI (t ^^^ 2 ^ i)) (f, upd a 3 (nI (t ^^^ 2 ^ i)))) : wpX_flip post (f, a) 3 (nI i) := by
  unfold wpX_flip
  dsimp only
  have hB : t ^^^ 2 ^ i < 8192 := Nat.xor_lt_two_pow (n := 13) ht (Nat.pow_lt_pow_right (by omega) (by omega))
  have ha' : a (3 : Int32).toNatClampNeg = nI t := ha
  refine hm_isW (j := 3) (by omega) (br_f (by decide) (pk_lt i 0 (fun z => absurd z (by omega)) (fun _ => pk_le i 12 (fun _ => ⟨pk_in 3 16 (by omega), pk_in 3 16 (by omega), nm_r (e' := upd a 3 (nI (t ^^^ 2 ^ i))) ?_ ⟨pk_in 3 16 (by omega), ?_⟩⟩) (fun z => absurd z (by omega)))))
  · rw [ha', hm_shl i (by omega), hm_xor, hm_cast (by omega)]; rfl
  · show post (upd a 3 (nI (t ^^^ 2 ^ i)) 3) _
    rw [pk_us]
    exact hp
theorem hm_read {post : Int32 → Prop} {w : Nat} {f : Int32} {a : Nat → Int32} (hw : w < 8192) (ha : a 3 = nI w) (h1 : hm_x w = 14 → post (-2)) (h2 : hm_x w < 14 → post (nI (hm_by (hm_me w (hm_x w))))) : wpX_read post (f, a) 3 := by
  unfold wpX_read
  dsimp only
  have ha' : a (3 : Int32).toNatClampNeg = nI w := ha
  have hB := hm_xB w
  rw [ha']
  refine hm_isW (j := 3) (by omega) (br_f (by decide) ⟨pk_in 3 16 (by omega), hm_wb hw ?_⟩)
  by_cases h : hm_x w = 14
  · rw [h]
    exact br_t rfl (h1 h)
  · have h' : hm_x w < 14 := by omega
    rw [hm_iN h']
    exact br_f (hm_n2 _ (by omega)) ⟨pk_in 3 16 (by omega), hm_men h' (hm_byt (hm_meB hw h') (h2 h'))⟩
theorem hm_rep {post : Int32 → St2 → Prop} {j w : Nat} {f : Int32} {a : Nat → Int32} (hj : j < 16) (hw : w < 8192) (ha : a j = nI w) (h1 : hm_x w = 14 → post (-2) (f, a)) (h2 : hm_x w < 14 → post (nI (hm_x w)) (f, upd a j (nI (hm_me w (hm_x w))))) : wpX_repair post (f, a) (nI j) := by
  unfold wpX_repair
  dsimp only
  have hB := hm_xB w
  rw [nI_clamp (show j < 2 ^ 31 by omega), ha]
  refine hm_isW hj (br_f (by decide) ⟨pk_in j 16 hj, hm_wb hw ?_⟩)
  by_cases h : hm_x w = 14
  · rw [h, hm_i14]
    exact br_t (by decide) (h1 h)
  · have h' : hm_x w < 14 := by omega
    have hm := hm_meB hw h'
    rw [hm_iN h']
    exact br_f (nI_pos (by omega)) ⟨pk_in j 16 hj, hm_men h' ⟨pk_in j 16 hj, nm_r (by rw [hm_cast (by omega)]) (h2 h')⟩⟩
theorem hm_raw {post : Int32 → Prop} {w : Nat} {f : Int32} {a : Nat → Int32} (ha : a 3 = nI w) (hp : post (nI w)) : wpX_raw post (f, a) 3 := by
  unfold wpX_raw
  dsimp only
  have ha' : a (3 : Int32).toNatClampNeg = nI w := ha
  rw [ha']
  exact hm_isW (j := 3) (by omega) (br_f (by decide) ⟨pk_in 3 16 (by omega), hp⟩)
theorem hm_dis {post : Int32 → Prop} {w v : Nat} {f : Int32} {a : Nat → Int32} (hw : w < 8192) (hv : v < 256) (ha : a 3 = nI w) (hp : post (nI (hm_pop (hm_K v ^^^ w)))) : wpX_distance post (f, a) 3 (nI v) := by
  unfold wpX_distance
  dsimp only
  have ha' : a (3 : Int32).toNatClampNeg = nI w := ha
  rw [ha']
  refine hm_isW (j := 3) (by omega) (br_f (by decide) (pk_lt v 0 (fun z => absurd z (by omega)) (fun _ => pk_le v 255 (fun _ => hm_enc hv ⟨pk_in 3 16 (by omega), ?_⟩) (fun z => absurd z (by omega)))))
  rw [hm_xor, Nat.xor_comm]
  exact hm_ones (Nat.xor_lt_two_pow (n := 13) (hm_KB v hv).1 hw) hp
theorem hm_nea {post : Int32 → Prop} {w : Nat} {f : Int32} {a : Nat → Int32} (hw : w < 8192) (ha : a 3 = nI w) (hp : post (nI (1000 * hm_l w + hm_c w))) : wpX_nearest post (f, a) 3 := by
  unfold wpX_nearest
  dsimp only
  have ha' : a (3 : Int32).toNatClampNeg = nI w := ha
  have hB := hm_xB w
  refine hm_isW (j := 3) (by omega) (br_f (by decide) ⟨pk_in 3 16 (by omega), nm_r ha' (hm_wb hw ?_)⟩)
  unfold hm_l hm_c at hp
  by_cases h : hm_x w = 14
  · rw [h] at hp
    rw [h, hm_i14]
    refine br_f (by decide) (br_t (by decide) (hm_cks hw (hm_odd hw ?_)))
    rw [if_neg (show ¬ 14 = 13 by omega), if_neg (show ¬ 14 < 13 by omega), if_neg (show ¬ 14 < 14 by omega)] at hp
    refine pk_eq (hm_pop w % 2) 0 (fun z => hm_wa2 (hm_ckB w) ?_) (fun z => hm_wa3 (hm_ckB w) ?_)
    · rw [if_pos z, if_pos z, ← nI_add] at hp
      exact hp
    · rw [if_neg z, if_neg z, ← nI_add] at hp
      exact hp
  · have h' : hm_x w < 14 := by omega
    rw [hm_iN h']
    rw [if_pos h'] at hp
    refine pk_eq (hm_x w) 13 (fun z => ?_) (fun z => br_f (nI_pos (by omega)) ?_)
    · rw [if_pos z] at hp; exact hp
    · rw [if_neg z, if_pos (by omega)] at hp; exact hp
theorem hm_nea16 {post : Int32 → Prop} {f : Int32} {a : Nat → Int32} (hp : post (-1)) : wpX_nearest post (f, a) 16 := by
  unfold wpX_nearest
  dsimp only
  unfold wpX_isWord
  dsimp only
  exact br_f (by decide) (br_t (by decide) (br_t rfl hp))

/-! broken and marred: only place 3 counts -/
theorem hm_brk {post : Int32 → Prop} {w : Nat} {f : Int32} {a : Nat → Int32} (hw : w < 8192) (A : hm_A a w) (hp : post (nI (if hm_x w = 14 then 1 else 0))) : wpX_broken post (f, a) := by
  unfold wpX_broken
  dsimp only
  have hB := hm_xB w
  refine pk_loop (fun n i s => wX_broken_4 post f a n s (nI i)) (fun i s => s = nI (if 3 < i ∧ hm_x w = 14 then 1 else 0)) 16 0 0 (by omega) rfl ?_ ?_
  · intro n s h
    refine pk_le 16 16 (fun _ => ?_) (fun z => absurd z (by omega))
    by_cases e : hm_x w = 14
    · rw [if_pos ⟨by omega, e⟩] at h
      rw [if_pos e] at hp
      rw [h]; exact hp
    · rw [if_neg (fun z => e z.2)] at h
      rw [if_neg e] at hp
      rw [h]; exact hp
  · intro n i s hi h hW
    refine pk_le 16 i (fun z => absurd z (by omega)) (fun _ => ⟨pk_in i 16 hi, ?_⟩)
    rw [nI_clamp (by omega), A i hi]
    by_cases e : i = 3
    · rw [if_pos e]
      rw [if_neg (by omega)] at h
      refine hm_wb hw ?_
      by_cases e4 : hm_x w = 14
      · rw [e4]
        refine br_t rfl (nm_e (nm_r (nI_1 i) (hW _ ?_)))
        rw [if_pos ⟨by omega, e4⟩, h]
        rfl
      · rw [hm_iN (by omega)]
        refine br_f (hm_n2 _ (by omega)) (nm_r (nI_1 i) (hW _ ?_))
        rw [if_neg (fun z => e4 z.2)]
        exact h
    · rw [if_neg e]
      refine hm_wb (w := 0) (by omega) ?_
      rw [hm_x0]
      refine br_f (by decide) (nm_r (nI_1 i) (hW _ ?_))
      rw [h]
      by_cases e3 : 3 < i ∧ hm_x w = 14
      · rw [if_pos e3, if_pos ⟨by omega, e3.2⟩]
      · rw [if_neg e3, if_neg (fun z => e3 ⟨by omega, z.2⟩)]
theorem hm_mar {post : Int32 → Prop} {w : Nat} {f : Int32} {a : Nat → Int32} (hw : w < 8192) (A : hm_A a w) (hp : post (nI (if hm_x w < 13 then 1 else 0))) : wpX_marred post (f, a) := by
  unfold wpX_marred
  dsimp only
  have hB := hm_xB w
  refine pk_loop (fun n i s => wX_marred_4 post f a n s (nI i)) (fun i s => s = nI (if 3 < i ∧ hm_x w < 13 then 1 else 0)) 16 0 0 (by omega) rfl ?_ ?_
  · intro n s h
    refine pk_le 16 16 (fun _ => ?_) (fun z => absurd z (by omega))
    by_cases e : hm_x w < 13
    · rw [if_pos ⟨by omega, e⟩] at h
      rw [if_pos e] at hp
      rw [h]; exact hp
    · rw [if_neg (fun z => e z.2)] at h
      rw [if_neg e] at hp
      rw [h]; exact hp
  · intro n i s hi h hW
    refine pk_le 16 i (fun z => absurd z (by omega)) (fun _ => ⟨pk_in i 16 hi, ?_⟩)
    rw [nI_clamp (by omega), A i hi]
    by_cases e : i = 3
    · rw [if_pos e]
      rw [if_neg (by omega)] at h
      refine hm_wb hw ?_
      by_cases e4 : hm_x w = 14
      · rw [e4, hm_i14]
        refine br_t (by decide) (nm_r (nI_1 i) (hW _ ?_))
        rw [if_neg (by omega)]
        exact h
      · rw [hm_iN (by omega)]
        refine br_f (nI_pos (by omega)) (pk_le 13 (hm_x w) (fun z => nm_r (nI_1 i) (hW _ ?_)) (fun z => nm_e (nm_r (nI_1 i) (hW _ ?_))))
        · rw [if_neg (by omega)]
          exact h
        · rw [if_pos ⟨by omega, z⟩, h]
          rfl
    · rw [if_neg e]
      refine hm_wb (w := 0) (by omega) ?_
      rw [hm_x0]
      refine br_f (by decide) (br_t (by decide) (nm_r (nI_1 i) (hW _ ?_)))
      rw [h]
      by_cases e3 : 3 < i ∧ hm_x w < 13
      · rw [if_pos e3, if_pos ⟨by omega, e3.2⟩]
      · rw [if_neg e3, if_neg (fun z => e3 ⟨by omega, z.2⟩)]

/-! scrub(4) -/
theorem hm_nx : ∀ k, k < 15 → (nI k + 1) &&& 15 = nI (k + 1) := by decide +kernel
theorem hm_sc0 {post : Int32 → St2 → Prop} {w k n : Nat} {a : Nat → Int32} (hk : k < 3) (A : hm_A a w) (h : ∀ a', hm_A a' w → wX_scrub_26 post 4 n 0 (nI (k + 1)) (nI (k + 1)) a') : wX_scrub_26 post 4 (n + 1) 0 (nI k) (nI k) a := by
  refine pk_le 4 k (fun z => absurd z (by omega)) (fun _ => hm_rep (w := 0) (by omega) (by omega) (by rw [A k (by omega), if_neg (by omega)]) (fun z => absurd z (by rw [hm_x0]; omega)) (fun _ => ?_))
  rw [hm_x0]
  refine br_f (by decide) (br_t (by decide) ?_)
  unfold wX_scrub_57
  exact nm_r (hm_nx k (by omega)) (nm_r (nI_1 k) (h _ (hm_Az A (by omega))))
theorem hm_sc3 {post : Int32 → St2 → Prop} {w n : Nat} {a : Nat → Int32} (hw : w < 8192) (A : hm_A a w) (hp : ∀ a', a' 3 = nI (if hm_x w = 14 then w else hm_me w (hm_x w)) → post (nI (if hm_x w < 13 then 1 else 0)) (nI 4, a')) : wX_scrub_26 post 4 (n + 2) 0 (nI 3) (nI 3) a := by
  have hB := hm_xB w
  have H : ∀ t a', post (nI t) (nI 4, a') → wX_scrub_57 post (wX_scrub_26 post 4 (n + 1)) 4 (nI t) (nI 3) (nI 3) a' := by
    intro t a' h
    unfold wX_scrub_57
    exact nm_r (hm_nx 3 (by omega)) (nm_r (nI_1 3) (pk_le 4 4 (fun _ => h) (fun z => absurd z (by omega))))
  refine pk_le 4 3 (fun z => absurd z (by omega)) (fun _ => hm_rep (by omega) hw (hm_A3 A) (fun z => ?_) (fun z => ?_))
  · rw [if_pos z, if_neg (by omega)] at hp
    exact br_t (by decide) (H 0 a (hp a (hm_A3 A)))
  · rw [if_neg (by omega)] at hp
    refine br_f (nI_pos (by omega)) (pk_le 13 (hm_x w) (fun y => ?_) (fun y => nm_e ?_))
    · rw [if_neg (by omega)] at hp
      exact H 0 _ (hp _ pk_us)
    · rw [if_pos y] at hp
      exact H 1 _ (hp _ pk_us)
theorem hm_scr {post : Int32 → St2 → Prop} {w : Nat} {a : Nat → Int32} (hw : w < 8192) (A : hm_A a w) (hp : ∀ a', a' 3 = nI (if hm_x w = 14 then w else hm_me w (hm_x w)) → post (nI (if hm_x w < 13 then 1 else 0)) (nI 4, a')) : wpX_scrub post (0, a) 4 := by
  unfold wpX_scrub
  dsimp only
  exact br_t (by decide) (br_t (by decide) ⟨5, hm_sc0 (k := 0) (by omega) A (fun a1 A1 => hm_sc0 (k := 1) (by omega) A1 (fun a2 A2 => hm_sc0 (k := 2) (by omega) A2 (fun a3 A3 => hm_sc3 (n := 0) hw A3 hp)))⟩)
end
section
/-! the law's own code and ones -/
def hm_c135 (x1 : Int32) : Nat → Int32 → Int32 → Int32
  | 0, x6, _ => x1 ||| x6
  | m + 1, x6, x7 => hm_c135 x1 m (x6 ^^^ ((x1 >>> (x7 &&& 31)) &&& 1)) (x7 + 1)
def hm_c34 (x1 : Int32) : Nat → Int32 → Int32 → Int32 → Int32 → Int32 → Int32
  | 0, x2, x3, x4, x5, _ => hm_c135 ((((x1 ||| (x2 <<< ((1 : Int32) &&& 31))) ||| (x3 <<< ((2 : Int32) &&& 31))) ||| (x4 <<< ((4 : Int32) &&& 31))) ||| (x5 <<< ((8 : Int32) &&& 31))) 12 0 1
  | m + 1, x2, x3, x4, x5, x6 => hm_c34 x1 m (if x6 &&& 1 = 0 then x2 else x2 ^^^ ((x1 >>> (x6 &&& 31)) &&& 1)) (if x6 &&& 2 = 0 then x3 else x3 ^^^ ((x1 >>> (x6 &&& 31)) &&& 1)) (if x6 &&& 4 = 0 then x4 else x4 ^^^ ((x1 >>> (x6 &&& 31)) &&& 1)) (if x6 &&& 8 = 0 then x5 else x5 ^^^ ((x1 >>> (x6 &&& 31)) &&& 1)) (x6 + 1)
theorem hm_codE : ∀ v, v < 256 → hm_c34 ((((nI v &&& 1) <<< ((3 : Int32) &&& 31)) ||| ((nI v &&& 14) <<< ((4 : Int32) &&& 31))) ||| ((nI v &&& 240) <<< ((5 : Int32) &&& 31))) 10 0 0 0 0 3 = nI (hm_K v) := by decide +kernel
theorem hm_135 {post : Int32 → Prop} {x1 : Int32} : ∀ m x6 i, i + m = 13 → post (hm_c135 x1 m x6 (nI i)) → wL_code_135 post x1 (m + 1) x6 (nI i) := by
  intro m
  induction m with
  | zero =>
    intro x6 i hi hp
    exact pk_lt 12 i (fun _ => hp) (fun z => absurd z (by omega))
  | succ m ih =>
    intro x6 i hi hp
    unfold hm_c135 at hp
    rw [nI_1] at hp
    exact pk_lt 12 i (fun z => absurd z (by omega)) (fun _ => nm_e (nm_r (nI_1 i) (ih _ (i + 1) (by omega) hp)))
theorem hm_87 {post : Int32 → Prop} {J : Int32 → Int32 → Int32 → Int32 → Int32 → Prop} {x1 x2 x3 x4 x5 x6 x7 : Int32} (h : J x2 x3 x4 (if x6 &&& 8 = 0 then x5 else x5 ^^^ x7) (x6 + 1)) : wL_code_87 post J x1 x2 x3 x4 x5 x6 x7 := by
  unfold wL_code_87
  exact ⟨fun c => nm_e (by rw [if_pos c] at h; exact h), fun c => nm_e (nm_e (by rw [if_neg c] at h; exact h))⟩
theorem hm_73 {post : Int32 → Prop} {J : Int32 → Int32 → Int32 → Int32 → Int32 → Prop} {x1 x2 x3 x4 x5 x6 x7 : Int32} (h : J x2 x3 (if x6 &&& 4 = 0 then x4 else x4 ^^^ x7) (if x6 &&& 8 = 0 then x5 else x5 ^^^ x7) (x6 + 1)) : wL_code_73 post J x1 x2 x3 x4 x5 x6 x7 := by
  unfold wL_code_73
  exact ⟨fun c => hm_87 (by rw [if_pos c] at h; exact h), fun c => nm_e (hm_87 (by rw [if_neg c] at h; exact h))⟩
theorem hm_61 {post : Int32 → Prop} {J : Int32 → Int32 → Int32 → Int32 → Int32 → Prop} {x1 x2 x3 x4 x5 x6 x7 : Int32} (h : J x2 (if x6 &&& 2 = 0 then x3 else x3 ^^^ x7) (if x6 &&& 4 = 0 then x4 else x4 ^^^ x7) (if x6 &&& 8 = 0 then x5 else x5 ^^^ x7) (x6 + 1)) : wL_code_61 post J x1 x2 x3 x4 x5 x6 x7 := by
  unfold wL_code_61
  exact ⟨fun c => hm_73 (by rw [if_pos c] at h; exact h), fun c => nm_e (hm_73 (by rw [if_neg c] at h; exact h))⟩
theorem hm_34 {post : Int32 → Prop} {x1 : Int32} : ∀ m x2 x3 x4 x5 i, i + m = 13 → post (hm_c34 x1 m x2 x3 x4 x5 (nI i)) → wL_code_34 post x1 (m + 1) x2 x3 x4 x5 (nI i) := by
  intro m
  induction m with
  | zero =>
    intro x2 x3 x4 x5 i hi hp
    exact pk_lt 12 i (fun _ => nm_e ⟨13, hm_135 12 0 1 rfl hp⟩) (fun z => absurd z (by omega))
  | succ m ih =>
    intro x2 x3 x4 x5 i hi hp
    unfold hm_c34 at hp
    rw [nI_1] at hp
    have h := ih _ _ _ _ (i + 1) (by omega) hp
    rw [← nI_1] at h
    refine pk_lt 12 i (fun z => absurd z (by omega)) (fun _ => nm_e ?_)
    exact ⟨fun c => hm_61 (by rw [if_pos c] at h; exact h), fun c => nm_e (hm_61 (by rw [if_neg c] at h; exact h))⟩
theorem hm_code {post : Int32 → Prop} {v : Nat} (hv : v < 256) (hp : post (nI (hm_K v))) : wpL_code post () (nI v) := by
  unfold wpL_code
  rw [← hm_codE v hv] at hp
  exact nm_e ⟨11, hm_34 10 0 0 0 0 3 rfl hp⟩
theorem hm_onL {post : Int32 → Prop} {w : Nat} (hw : w < 8192) : ∀ m t i, i + m = 13 → post (nI (hm_on w m t i)) → wL_ones_4 post (nI w) (m + 1) (nI t) (nI i) := by
  intro m
  induction m with
  | zero =>
    intro t i hi hp
    exact pk_le 13 i (fun _ => hp) (fun z => absurd z (by omega))
  | succ m ih =>
    intro t i hi hp
    refine pk_le 13 i (fun z => absurd z (by omega)) (fun _ => nm_r (e' := nI (t + w / 2 ^ i % 2)) ?_ (nm_r (nI_1 i) (ih (t + w / 2 ^ i % 2) (i + 1) (by omega) hp)))
    rw [hm_bit hw (by omega), nI_add]
theorem hm_onesL {post : Int32 → Prop} {w : Nat} (hw : w < 8192) (hp : post (nI (hm_pop w))) : wpL_ones post () (nI w) := by
  unfold wpL_ones
  exact ⟨14, hm_onL hw 13 0 0 rfl hp⟩

/-! the law's tail -/
theorem hm_395 {post : Int32 → St0 → Prop} {mc ms kc ks : Nat} {z0 z1 f : Int32} {a : Nat → Int32} (hz : z1 = z0) (hp : post 1 ()) : wL_lawOf_395 post mc ms z0 z1 kc ks f a := by
  unfold wL_lawOf_395
  exact br_t hz (hm_nea16 (br_t rfl hp))
theorem hm_lx {w : Nat} : (hm_l w = 1 ↔ hm_x w < 13) ∧ (1 < hm_l w ↔ hm_x w = 14) ∧ hm_l w ≤ 3 := by
  have hB := hm_xB w
  unfold hm_l
  by_cases h1 : hm_x w = 13
  · rw [if_pos h1]; omega
  · rw [if_neg h1]
    by_cases h2 : hm_x w < 13
    · rw [if_pos h2]; omega
    · rw [if_neg h2]
      split <;> omega
theorem hm_341 {post : Int32 → St0 → Prop} {mc ms kc ks w best : Nat} {z : Int32} {a : Nat → Int32} (hw : w < 8192) (A : hm_A a w) (hb : best < 256) (h0 : z = 0 → hm_x w = 14) (h1 : ¬ z = 0 → hm_x w < 14 ∧ hm_K best = hm_me w (hm_x w)) (hp : post 1 ()) : wL_lawOf_341 post mc ms (nI w) (nI (hm_l w)) (nI best) z kc ks 0 a := by
  unfold wL_lawOf_341
  obtain ⟨l1, l2, l3⟩ := @hm_lx w
  refine hm_scr hw A (fun a' ha => ?_)
  have H : ∀ r : Int32, wL_lawOf_362 post mc ms (nI w) (nI best) z r r kc ks (nI 4) a' := by
    intro r
    unfold wL_lawOf_362
    refine br_t rfl ?_
    unfold wpX_hand
    dsimp only
    refine br_t rfl (hm_raw ha (br_c (fun c => hm_395 ?_ hp) (fun c => hm_code hb (hm_395 ?_ hp))))
    · rw [if_pos (h0 c)]
    · have h2 := h1 c
      rw [if_neg (by omega), h2.2]
  refine pk_eq (hm_l w) 1 (fun c => ?_) (fun c => ?_)
  · rw [if_pos (l1.mp c)]
    exact H (nI 1)
  · rw [if_neg (fun y => c (l1.mpr y))]
    exact H (nI 0)
theorem hm_296 {post : Int32 → St0 → Prop} {mc ms kc ks w best p : Nat} {x2 z z0 z1 : Int32} {a : Nat → Int32} (hz : z1 = z0) (hpB : p < 256) (hw : w < 8192) (A : hm_A a w) (hb : best < 256) (h0 : z = 0 → hm_x w = 14) (h1 : ¬ z = 0 → hm_x w < 14 ∧ hm_K best = hm_me w (hm_x w)) (hp : post 1 ()) : wL_lawOf_296 post mc ms x2 (nI p) (nI w) (nI (hm_l w)) (nI best) z z0 z1 kc ks 0 a := by
  unfold wL_lawOf_296
  obtain ⟨q, hq, eq⟩ := pk_andE x2 (m := 255) 8 (by decide)
  refine br_t hz (nm_r eq (hm_code hq (hm_code hpB ?_)))
  refine pk_eq q p (fun _ => hm_341 hw A hb h0 h1 hp) (fun c => ?_)
  rw [hm_xor]
  have hd := hm_dist hq hpB c
  have hB := hm_popB (hm_K q ^^^ hm_K p)
  exact hm_onesL (Nat.xor_lt_two_pow (n := 13) (hm_KB q hq).1 (hm_KB p hpB).1) (pk_le 4 (hm_pop (hm_K q ^^^ hm_K p)) (fun _ => hm_341 hw A hb h0 h1 hp) (fun y => absurd y (by omega)))
theorem hm_239 {post : Int32 → St0 → Prop} {mc ms kc ks w best p : Nat} {x2 z : Int32} {a : Nat → Int32} (hpB : p < 256) (hw : w < 8192) (A : hm_A a w) (hb : best < 256) (h0 : z = 0 → hm_x w = 14) (h1 : ¬ z = 0 → hm_x w < 14 ∧ hm_K best = hm_me w (hm_x w) ∧ hm_by (hm_me w (hm_x w)) = best) (hp : post 1 ()) : wL_lawOf_239 post mc ms x2 (nI p) (nI w) (nI (hm_l w)) (nI best) z kc ks 0 a := by
  unfold wL_lawOf_239
  obtain ⟨l1, l2, l3⟩ := @hm_lx w
  have H277 : ∀ r : Int32, wL_lawOf_277 post mc ms x2 (nI p) (nI w) (nI (hm_l w)) (nI best) z r r kc ks 0 a := by
    intro r
    unfold wL_lawOf_277
    refine br_t rfl (hm_mar hw A ?_)
    refine pk_eq (hm_l w) 1 (fun c => ?_) (fun c => ?_)
    · rw [if_pos (l1.mp c)]
      exact hm_296 rfl hpB hw A hb h0 (fun y => ⟨(h1 y).1, (h1 y).2.1⟩) hp
    · rw [if_neg (fun y => c (l1.mpr y))]
      exact hm_296 rfl hpB hw A hb h0 (fun y => ⟨(h1 y).1, (h1 y).2.1⟩) hp
  have H257 : ∀ r : Int32, wL_lawOf_257 post mc ms x2 (nI p) (nI w) (nI (hm_l w)) (nI best) z r r kc ks 0 a := by
    intro r
    unfold wL_lawOf_257
    refine br_t rfl (hm_brk hw A (br_c (fun c => ?_) (fun c => ?_)))
    · rw [if_pos (h0 c)]
      exact H277 (nI 1)
    · have h2 := (h1 c).1
      rw [if_neg (by omega)]
      exact H277 (nI 0)
  refine hm_read hw (hm_A3 A) (fun e => br_c (fun c => H257 _) (fun c => ?_)) (fun e => br_c (fun c => ?_) (fun c => ?_))
  · have h2 := (h1 c).1
    omega
  · have h2 := h0 c
    omega
  · rw [(h1 c).2.2]
    exact H257 _

/-! the loop over the codes -/
def hm_d (w b : Nat) : Nat := hm_pop (hm_K b ^^^ w)
def hm_I (w i : Nat) (s : Nat × Nat × Nat) : Prop := hm_l w ≤ s.1 ∧ s.1 ≤ 13 ∧ (s.1 = hm_l w → s.2.1 = hm_cnt (hm_d w) (hm_l w) i ∧ s.2.2 < 256 ∧ hm_d w s.2.2 = hm_l w) ∧ (s.1 ≠ hm_l w → hm_cnt (hm_d w) (hm_l w) i = 0)
theorem hm_cS (d : Nat → Nat) (l n : Nat) : hm_cnt d l (n + 1) = hm_cnt d l n + if d n = l then 1 else 0 := rfl
theorem hm_121 {post : Int32 → St0 → Prop} {mc ms kc ks w p : Nat} {x2 : Int32} {a : Nat → Int32} (hpB : p < 256) (hw : w < 8192) (A : hm_A a w) (hp : post 1 ()) : ∃ n, wL_lawOf_121 post mc ms x2 (nI p) (nI w) kc ks 0 a n 13 0 0 0 := by
  obtain ⟨l1, l2, l3⟩ := @hm_lx w
  obtain ⟨f1, f2, f3⟩ := hm_fact hw
  have f1' : ∀ b, b < 256 → hm_l w ≤ hm_d w b := f1
  have f2' : hm_cnt (hm_d w) (hm_l w) 256 = hm_c w := f2
  have hB := hm_xB w
  refine pk_loop (fun n i s => wL_lawOf_121 post mc ms x2 (nI p) (nI w) kc ks 0 a n (nI s.1) (nI s.2.1) (nI s.2.2) (nI i)) (hm_I w) 256 0 (13, 0, 0) (by omega) ?_ ?_ ?_
  · exact ⟨by show hm_l w ≤ 13; omega, Nat.le_refl _, fun z => absurd z (by show ¬ 13 = hm_l w; omega), fun _ => rfl⟩
  · intro n s h
    obtain ⟨s1, s2, s3⟩ := s
    obtain ⟨i1, i2, i3, i4⟩ := h
    dsimp only at i1 i2 i3 i4
    have e1 : s1 = hm_l w := by
      by_cases e : s1 = hm_l w
      · exact e
      · have := i4 e
        omega
    obtain ⟨j1, j2, j3⟩ := i3 e1
    rw [f2'] at j1
    subst e1 j1
    refine pk_le 256 256 (fun _ => hm_nea hw (hm_A3 A) (br_t ?_ ?_)) (fun z => absurd z (by omega))
    · rw [← nI_add, ← pk_mul]
      rfl
    · refine pk_lt 1 (hm_l w) (fun c => ?_) (fun c => ?_)
      · unfold wL_lawOf_226
        exact br_t rfl (hm_239 hpB hw A j2 (fun _ => l2.mp c) (fun y => absurd rfl y) hp)
      · have hx : hm_x w < 14 := by
          have : ¬ hm_x w = 14 := fun y => absurd (l2.mpr y) (by omega)
          omega
        have hc : hm_c w = 1 := by unfold hm_c; rw [if_pos hx]
        obtain ⟨g1, g2, g3⟩ := hm_fix hw hx
        have hd : hm_d w (hm_by (hm_me w (hm_x w))) = hm_l w := by
          unfold hm_d
          rw [g1]
          exact g3
        have hu := hm_cnt1 (by rw [f2', hc]) g2 j2 hd j3
        rw [hc]
        unfold wL_lawOf_226
        exact br_f (by decide) (br_t rfl (hm_239 hpB hw A j2 (fun y => absurd y (by decide)) (fun _ => ⟨hx, by rw [← hu]; exact g1, hu⟩) hp))
  · intro n i s hi h hW
    obtain ⟨s1, s2, s3⟩ := s
    obtain ⟨i1, i2, i3, i4⟩ := h
    dsimp only at i1 i2 i3 i4
    have hxB : hm_K i ^^^ w < 8192 := Nat.xor_lt_two_pow (n := 13) (hm_KB i hi).1 hw
    have hdB : hm_d w i ≤ 13 := hm_popB _
    have hdl := f1' i hi
    have hS := hm_cS (hm_d w) (hm_l w) i
    refine pk_le 256 i (fun z => absurd z (by omega)) (fun _ => hm_code hi ?_)
    rw [hm_xor]
    refine hm_onesL hxB (hm_dis hw hi (hm_A3 A) (br_t rfl ?_))
    show (nI s1 ≤ nI (hm_d w i) → _) ∧ _
    refine pk_le s1 (hm_d w i) (fun c => ?_) (fun c => ?_)
    · unfold wL_lawOf_179
      refine pk_eq (hm_d w i) s1 (fun e => nm_r (nI_1 s2) (nm_r (nI_1 i) (hW (s1, s2 + 1, s3) ?_))) (fun e => nm_r (nI_1 i) (hW (s1, s2, s3) ?_))
      · refine ⟨i1, i2, fun z => ?_, fun z => ?_⟩
        · obtain ⟨j1, j2, j3⟩ := i3 z
          refine ⟨?_, j2, j3⟩
          rw [hS, if_pos (by rw [e]; exact z), ← j1]
        · rw [hS, if_neg (by rw [e]; exact z), i4 z]
      · refine ⟨i1, i2, fun z => ?_, fun z => ?_⟩
        · obtain ⟨j1, j2, j3⟩ := i3 z
          refine ⟨?_, j2, j3⟩
          rw [hS, if_neg (by rw [← z]; exact e), ← j1]
          rfl
        · rw [hS, if_neg (by have : s1 ≠ hm_l w := z; omega), i4 z]
    · unfold wL_lawOf_179
      refine br_t rfl (nm_r (nI_1 0) (nm_r (nI_1 i) (hW (hm_d w i, 1, i) ?_)))
      have z0 := i4 (by omega)
      refine ⟨hdl, hdB, fun z => ?_, fun z => ?_⟩
      · refine ⟨?_, hi, z⟩
        rw [hS, if_pos z, z0]
      · rw [hS, if_neg z, z0]

/-! the flips -/
theorem hm_fl1 {z i : Nat} (h : z / 2 ^ i % 2 = 1) : (z % 2 ^ i) ^^^ 2 ^ i = z % 2 ^ (i + 1) := by
  apply Nat.eq_of_testBit_eq
  intro j
  rw [Nat.testBit_xor, Nat.testBit_mod_two_pow, Nat.testBit_mod_two_pow, Nat.testBit_two_pow]
  have hb : z.testBit i = true := by
    rw [Nat.testBit_eq_decide_div_mod_eq, h]
    rfl
  rcases Nat.lt_trichotomy j i with c | c | c
  · simp [c, show j < i + 1 by omega, show ¬ i = j by omega]
  · subst c
    simp [hb]
  · simp [show ¬ j < i by omega, show ¬ j < i + 1 by omega, show ¬ i = j by omega]
theorem hm_fl0 {z i : Nat} (h : ¬ z / 2 ^ i % 2 = 1) : z % 2 ^ (i + 1) = z % 2 ^ i := by
  have h2 := hm_b2 z i
  rw [Nat.mod_pow_succ, show z / 2 ^ i % 2 = 0 by omega, Nat.mul_zero, Nat.add_zero]
theorem hm_55 {post : Int32 → St0 → Prop} {mc ms kc ks w p k : Nat} {x2 : Int32} {a : Nat → Int32} (hpB : p < 256) (hw : w < 8192) (hk : k < 8192) (A : hm_A a k) (hp : post 1 ()) : ∃ n, wL_lawOf_55 post mc ms x2 (nI p) (nI w) (nI k) kc ks n 0 0 a := by
  have hz : k ^^^ w < 8192 := Nat.xor_lt_two_pow (n := 13) hk hw
  refine pk_loop (fun n i s => wL_lawOf_55 post mc ms x2 (nI p) (nI w) (nI k) kc ks n (nI i) 0 s) (fun i s => hm_A s (k ^^^ ((k ^^^ w) % 2 ^ i))) 13 0 a (by omega) ?_ ?_ ?_
  · show hm_A a (k ^^^ ((k ^^^ w) % 2 ^ 0))
    rw [Nat.pow_zero, Nat.mod_one, Nat.xor_zero]
    exact A
  · intro n s h
    rw [Nat.mod_eq_of_lt (show k ^^^ w < 2 ^ 13 from hz), ← Nat.xor_assoc, Nat.xor_self, Nat.zero_xor] at h
    exact pk_le 13 13 (fun _ => hm_raw (hm_A3 h) (br_t rfl (hm_121 hpB hw h hp))) (fun z => absurd z (by omega))
  · intro n i s hi h hW
    have hm : (k ^^^ w) % 2 ^ i < 8192 := Nat.lt_of_le_of_lt (Nat.mod_le _ _) hz
    have ht : k ^^^ ((k ^^^ w) % 2 ^ i) < 8192 := Nat.xor_lt_two_pow (n := 13) hk hm
    have hb := hm_b2 (k ^^^ w) i
    refine pk_le 13 i (fun z => absurd z (by omega)) (fun _ => ?_)
    refine pk_eq ((k ^^^ w) / 2 ^ i % 2) 1 (fun c => ?_) (fun c => nm_r (nI_1 i) (hW s ?_)) (hx := by rw [hm_xor]; exact hm_bit hz (by omega))
    · have hf : (k ^^^ ((k ^^^ w) % 2 ^ i)) ^^^ 2 ^ i < 8192 := Nat.xor_lt_two_pow (n := 13) ht (Nat.pow_lt_pow_right (by omega) (by omega))
      refine hm_flip hi ht (hm_A3 h) (br_t (nI_pos' (by omega)) (nm_r (nI_1 i) (hW _ ?_)))
      rw [Nat.xor_assoc, hm_fl1 c]
      exact hm_Au h
    · rw [hm_fl0 c]
      exact h
theorem hm_cell {post : Int32 → Prop} {L k : Nat} {xs : Nat → Int32} (hL : L ≤ 3) (hk : k < 3) (h : ∀ r, post r) : wpL_cellAt post L xs () (nI k) := by
  unfold wpL_cellAt
  exact pk_le L k (fun _ => h 0) (fun z => ⟨pk_in k L z, h _⟩)
theorem i_vc (xs : Nat → Int32) (L : Nat) (hL : L ≤ 3) : wpL_law (fun r => r = 1) L xs := by
  unfold wpL_law
  refine hm_cell (k := 0) hL (by omega) (fun r1 => hm_cell (k := 1) hL (by omega) (fun r2 => hm_cell (k := 2) hL (by omega) (fun r3 => ⟨10, 144, by omega, by omega, ?_⟩)))
  unfold wpL_lawOf
  obtain ⟨p, hp, ep⟩ := pk_andE r1 (m := 255) 8 (by decide)
  obtain ⟨w, hw, ew⟩ := pk_andE r2 (m := 8191) 13 (by decide)
  have hK := hm_KB p hp
  have hB := hm_popB (hm_K p)
  refine nm_r ep (nm_r ew ⟨by omega, by omega, 1, 16, by omega, by omega, ?_⟩)
  unfold wpX_init
  refine ⟨by omega, by omega, ?_⟩
  dsimp only
  refine hm_write hp (hm_code hp (br_t rfl (hm_onesL hK.1 ⟨by decide, br_t ?_ ?_⟩)))
  · have e := pk_rem (a := hm_pop (hm_K p)) (d := 2) (by omega) (by omega) (by omega)
    rw [hK.2.1] at e
    exact e
  · exact hm_55 hp hw hK.1 (hm_Au (w := 0) (fun j _ => by rw [show (if j = 3 then 0 else 0) = 0 by split <;> rfl]; rfl)) rfl
end
