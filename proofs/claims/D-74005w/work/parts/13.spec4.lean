/-! THE SPEC, part 4: copies of the row, what is told, what can be undone -/
set_option maxRecDepth 100000
theorem upR_self {s : Nat → Nat → Int32} {d : Nat} {f : Nat → Int32} (h : f = s d) : upR s d f = s := by
  funext a
  by_cases e : a = d
  · subst e; simp [upR, h]
  · simp [upR, e]
theorem st1_upR {s : Nat → Nat → Int32} {d N : Nat} {f : Nat → Int32} {v : Int32} : st1 (upR s d f) d N v = upR s d (upd f N v) := by
  funext a
  by_cases e : a = d
  · subst e; simp [st1, upR]
  · simp [st1, upR, e]
theorem cpy_0 {α : Type} {f g : Nat → α} {sp dp : Nat} : va_cpy f g sp dp 0 = g := by
  funext j; unfold va_cpy; rw [if_neg (by omega)]
theorem cpy_s {f g : Nat → Int32} {sp dp i : Nat} : upd (va_cpy f g sp dp i) (dp + i) (f (sp + i)) = va_cpy f g sp dp (i + 1) := by
  funext j
  by_cases e : j = dp + i
  · subst e; simp only [upd, if_true]; rw [pk_cpy_in (by omega) (by omega)]; congr 1; omega
  · simp only [upd, if_neg e]
    by_cases h : dp ≤ j ∧ j < dp + i
    · rw [pk_cpy_in h.1 h.2, pk_cpy_in h.1 (by omega)]
    · rw [pk_cpy_out (by omega), pk_cpy_out (by omega)]
theorem cp_st {s : Nat → Nat → Int32} {d N sp dp i : Nat} {f g : Nat → Int32} {v : Int32} (hN : N = dp + i) (hv : v = f (sp + i)) : st1 (upR s d (va_cpy f g sp dp i)) d N v = upR s d (va_cpy f g sp dp (i + 1)) := by
  rw [st1_upR, hN, hv, cpy_s]
theorem cp_0 {s : Nat → Nat → Int32} {d sp dp : Nat} {f : Nat → Int32} : upR s d (va_cpy f (s d) sp dp 0) = s := upR_self cpy_0
def layF (s : Nat → Nat → Int32) (k : Nat) : Nat → Nat → Int32 := upR s 26 (va_cpy (s 25) (s 26) 0 (79 * k) 79)
def backF (s : Nat → Nat → Int32) (k : Nat) : Nat → Nat → Int32 := upR s 25 (va_cpy (s 26) (s 25) (79 * k) 0 79)
def asideF (s : Nat → Nat → Int32) : Nat → Nat → Int32 := upR s 27 (va_cpy (s 25) (s 27) 0 0 79)
def toldF (s : Nat → Nat → Int32) : Nat → Nat → Int32 := st1 (st1 (st1 (st1 s 0 30 (s 3 0)) 0 31 (s 3 1)) 0 32 (s 3 2)) 0 33 (s 3 3)
def comeF (s : Nat → Nat → Int32) : Nat → Nat → Int32 := toldF (upR s 25 (va_cpy (s 27) (s 25) 0 0 79))
def shiftF (s : Nat → Nat → Int32) : Nat → Nat → Int32 := st1 (upR s 26 (va_cpy (s 26) (s 26) 79 0 1501)) 0 28 (nI 19)
def remF (s : Nat → Nat → Int32) (K : Nat) : Nat → Nat → Int32 := if K = 20 then st1 (layF (shiftF s) 19) 0 28 (nI 20) else st1 (layF s K) 0 28 (nI (K + 1))
def tunedF (s : Nat → Nat → Int32) (u : Nat) : Nat := if 0 < s 25 u then 1 else 0
def tunedN (s : Nat → Nat → Int32) (n : Nat) : Nat := sumN (tunedF s) n
/-- with the word 'thrown' put back -/
def zt (s : Nat → Nat → Int32) : Nat → Nat → Int32 := st1 s 0 0 (nI 0)
def bit (S k : Nat) : Nat := S / 2 ^ k % 2
theorem bit_at : ∀ k, k < 8 → ∀ S, S < 256 → (nI S >>> (nI k &&& 31)) &&& nI 1 = nI (bit S k) := by decide +kernel
theorem bit_01 (S k : Nat) : bit S k = 0 ∨ bit S k = 1 := by unfold bit; omega
def freeF (s : Nat → Nat → Int32) (u : Nat) : Bool := decide (s 25 u = 0)
/-- the first place from j on that is in a set, 6 behind the last -/
def nxF (S : Nat) : Nat → Nat → Nat
  | 0, j => j
  | f + 1, j => if j < 6 ∧ bit S j = 0 then nxF S f (j + 1) else j
/-- the last place below j (a place behind) that is in a set; 0: none -/
def avF (S : Nat) : Nat → Nat
  | 0 => 0
  | j + 1 => if bit S j = 0 then avF S j else j + 1
theorem nI_sub1 {u : Nat} : nI (u + 1) - nI 1 = nI u := nI_pred u
theorem m1_add : (-1 : Int32) + nI 1 = nI 0 := by decide
