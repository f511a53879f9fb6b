theorem u3_self {α : Type} (f : Nat → Nat → Nat → α) (c i j : Nat) (v : α) : u3 f c i j v c i j = v := sorry
theorem u3_c {α : Type} {f : Nat → Nat → Nat → α} {c c' i i' j j' : Nat} {v : α} (h : c' ≠ c) : u3 f c i j v c' i' j' = f c' i' j' := sorry
theorem u3_ne {α : Type} {f : Nat → Nat → Nat → α} {c c' i i' j : Nat} {v : α} (h : ¬ (c' = c ∧ i' = i)) : u3 f c i j v c' i' = f c' i' := sorry
theorem u3_arr (f : Nat → Nat → Nat → Int32) (c i j : Nat) (v : Int32) : (fun j' => u3 f c i j v c i j') = upd (fun j' => f c i j') j v := sorry
theorem u3_arrL (f : Nat → Nat → Nat → Int64) (c i j : Nat) (v : Int64) : (fun j' => u3 f c i j v c i j') = vp_updL (fun j' => f c i j') j v := sorry
theorem u3_arrB (f : Nat → Nat → Nat → Bool) (c i j : Nat) (v : Bool) : (fun j' => bI (u3 f c i j v c i j')) = upd (fun j' => bI (f c i j')) j (bI v) := sorry
theorem u3_arrR (g : Nat → Nat) (f : Nat → Nat → Nat → Option Nat) (c i j : Nat) (v : Option Nat) : (fun j' => (u3 f c i j v c i j').map g) = va_up (fun j' => (f c i j').map g) j (v.map g) := sorry
/-- the family whose objects a column belongs to -/
def ow (c : Nat) : Nat := match c with
  | 1001 => 0
  | 1003 => 0
  | 1005 => 0
  | 1020 => 0
  | 1022 => 0
  | 1024 => 0
  | 1026 => 0
  | 1028 => 0
  | 1021 => 0
  | 1101 => 1
  | 1109 => 1
  | 1112 => 1
  | 1114 => 1
  | 1117 => 1
  | 1118 => 1
  | 1119 => 1
  | 1120 => 1
  | 1121 => 1
  | 1122 => 1
  | 1123 => 1
  | 1124 => 1
  | 1127 => 1
  | 1128 => 1
  | 1102 => 1
  | 1103 => 1
  | 1104 => 1
  | 1105 => 1
  | 1106 => 1
  | 1115 => 1
  | 1100 => 1
  | 1107 => 1
  | 1110 => 1
  | 1126 => 1
  | 1200 => 2
  | 1202 => 2
  | 1208 => 2
  | 1213 => 2
  | 1214 => 2
  | 1215 => 2
  | 1216 => 2
  | 1217 => 2
  | 1218 => 2
  | 1219 => 2
  | 1220 => 2
  | 1221 => 2
  | 1203 => 2
  | 1204 => 2
  | 1205 => 2
  | 1206 => 2
  | 1212 => 2
  | 1201 => 2
  | 1207 => 2
  | 1222 => 2
  | 1303 => 3
  | 1305 => 3
  | 1307 => 3
  | 1310 => 3
  | 1313 => 3
  | 1406 => 4
  | 1407 => 4
  | 1505 => 5
  | 1506 => 5
  | 1507 => 5
  | 1508 => 5
  | 1515 => 5
  | 1516 => 5
  | 1517 => 5
  | 1502 => 5
  | 1613 => 6
  | 1614 => 6
  | 1616 => 6
  | 1618 => 6
  | 1605 => 6
  | 1602 => 6
  | 1603 => 6
  | 1604 => 6
  | 1700 => 7
  | 1702 => 7
  | 1703 => 7
  | 1701 => 7
  | 1803 => 8
  | 1807 => 8
  | 1804 => 8
  | 1805 => 8
  | 1907 => 9
  | 1909 => 9
  | 1911 => 9
  | 1912 => 9
  | 1913 => 9
  | 1914 => 9
  | 1916 => 9
  | 1921 => 9
  | 2000 => 10
  | 2002 => 10
  | 2005 => 10
  | 2007 => 10
  | 2009 => 10
  | 2011 => 10
  | 2013 => 10
  | 2101 => 11
  | 2103 => 11
  | 2110 => 11
  | 2118 => 11
  | 2119 => 11
  | 2120 => 11
  | 2121 => 11
  | 2122 => 11
  | 2189 => 11
  | 2191 => 11
  | 2195 => 11
  | 2198 => 11
  | 2201 => 11
  | 2202 => 11
  | 2204 => 11
  | 2208 => 11
  | 2209 => 11
  | 2210 => 11
  | 2214 => 11
  | 2216 => 11
  | 2228 => 11
  | 2229 => 11
  | 2234 => 11
  | 2236 => 11
  | 2237 => 11
  | 2239 => 11
  | 2240 => 11
  | 2242 => 11
  | 2245 => 11
  | 2251 => 11
  | 2253 => 11
  | 2255 => 11
  | 2261 => 11
  | 2262 => 11
  | 2263 => 11
  | 2264 => 11
  | 2265 => 11
  | 2266 => 11
  | 2267 => 11
  | 2269 => 11
  | 2271 => 11
  | 2273 => 11
  | 2275 => 11
  | 2192 => 11
  | 2211 => 11
  | c => c
def fl_0 : List Nat := [0, 1, 2, 3, 4, 5, 6, 7, 8, 9, 10, 11, 1000, 1002, 1004, 1006]
def fl_1 : List Nat := [1007, 1008, 1023, 1025, 1027, 1029, 1030, 1031, 1108, 1111, 1113, 1116, 1125, 1209, 1210, 1211]
def fl_2 : List Nat := [1302, 1304, 1306, 1308, 1309, 1311, 1312, 1501, 1503, 1504, 1509, 1510, 1511, 1512, 1513, 1514]
def fl_3 : List Nat := [1606, 1607, 1608, 1609, 1610, 1611, 1612, 1615, 1617, 1801, 1802, 1806, 1902, 1903, 1904, 1905]
def fl_4 : List Nat := [1906, 1908, 1910, 1915, 1917, 1918, 1919, 1920, 1922, 2001, 2003, 2004, 2006, 2008, 2010, 2012]
def fl_5 : List Nat := [2100, 2102, 2104, 2105, 2106, 2107, 2108, 2109, 2111, 2112, 2113, 2114, 2115, 2116, 2117, 2123]
def fl_6 : List Nat := [2124, 2125, 2126, 2127, 2128, 2129, 2130, 2131, 2132, 2133, 2134, 2135, 2136, 2137, 2138, 2139]
def fl_7 : List Nat := [2140, 2141, 2142, 2143, 2144, 2145, 2146, 2147, 2148, 2149, 2150, 2151, 2152, 2153, 2154, 2155]
def fl_8 : List Nat := [2156, 2157, 2158, 2159, 2160, 2161, 2162, 2163, 2164, 2165, 2166, 2167, 2168, 2169, 2170, 2171]
def fl_9 : List Nat := [2172, 2173, 2174, 2175, 2176, 2177, 2178, 2179, 2180, 2181, 2182, 2183, 2184, 2185, 2186, 2187]
def fl_10 : List Nat := [2188, 2190, 2193, 2194, 2196, 2197, 2199, 2200, 2203, 2205, 2206, 2207, 2212, 2213, 2215, 2217]
def fl_11 : List Nat := [2218, 2219, 2220, 2221, 2222, 2223, 2224, 2225, 2226, 2227, 2230, 2231, 2232, 2233, 2235, 2238]
def fl_12 : List Nat := [2241, 2243, 2244, 2246, 2247, 2248, 2249, 2250, 2252, 2254, 2256, 2257, 2258, 2259, 2260, 2268]
def fl_13 : List Nat := [2270, 2272, 2274, 2276, 2277, 2278, 2279, 1999]
def fl : List Nat := fl_0 ++ fl_1 ++ fl_2 ++ fl_3 ++ fl_4 ++ fl_5 ++ fl_6 ++ fl_7 ++ fl_8 ++ fl_9 ++ fl_10 ++ fl_11 ++ fl_12 ++ fl_13
theorem fl_all : ∀ g, g < 2400 → 0 < cnt g → g ∈ fl := sorry
theorem fl_in {g k : Nat} (h : k < cnt g) : g ∈ fl := sorry
theorem efI_0 (G : Gl) (σ : Sg) (c i j : Nat) (v : Int32) (k : Nat) (h : ¬ (0 = ow c ∧ k = i)) : en G (sI σ c i j v) 0 k = en G σ 0 k := sorry
theorem efI_1 (G : Gl) (σ : Sg) (c i j : Nat) (v : Int32) (k : Nat) (h : ¬ (1 = ow c ∧ k = i)) : en G (sI σ c i j v) 1 k = en G σ 1 k := sorry
theorem efI_2 (G : Gl) (σ : Sg) (c i j : Nat) (v : Int32) (k : Nat) (h : ¬ (2 = ow c ∧ k = i)) : en G (sI σ c i j v) 2 k = en G σ 2 k := sorry
theorem efI_3 (G : Gl) (σ : Sg) (c i j : Nat) (v : Int32) (k : Nat) (h : ¬ (3 = ow c ∧ k = i)) : en G (sI σ c i j v) 3 k = en G σ 3 k := sorry
theorem efI_4 (G : Gl) (σ : Sg) (c i j : Nat) (v : Int32) (k : Nat) (h : ¬ (4 = ow c ∧ k = i)) : en G (sI σ c i j v) 4 k = en G σ 4 k := sorry
theorem efI_5 (G : Gl) (σ : Sg) (c i j : Nat) (v : Int32) (k : Nat) (h : ¬ (5 = ow c ∧ k = i)) : en G (sI σ c i j v) 5 k = en G σ 5 k := sorry
theorem efI_6 (G : Gl) (σ : Sg) (c i j : Nat) (v : Int32) (k : Nat) (h : ¬ (6 = ow c ∧ k = i)) : en G (sI σ c i j v) 6 k = en G σ 6 k := sorry
theorem efI_7 (G : Gl) (σ : Sg) (c i j : Nat) (v : Int32) (k : Nat) (h : ¬ (7 = ow c ∧ k = i)) : en G (sI σ c i j v) 7 k = en G σ 7 k := sorry
theorem efI_8 (G : Gl) (σ : Sg) (c i j : Nat) (v : Int32) (k : Nat) (h : ¬ (8 = ow c ∧ k = i)) : en G (sI σ c i j v) 8 k = en G σ 8 k := sorry
theorem efI_9 (G : Gl) (σ : Sg) (c i j : Nat) (v : Int32) (k : Nat) (h : ¬ (9 = ow c ∧ k = i)) : en G (sI σ c i j v) 9 k = en G σ 9 k := sorry
theorem efI_10 (G : Gl) (σ : Sg) (c i j : Nat) (v : Int32) (k : Nat) (h : ¬ (10 = ow c ∧ k = i)) : en G (sI σ c i j v) 10 k = en G σ 10 k := sorry
theorem efI_11 (G : Gl) (σ : Sg) (c i j : Nat) (v : Int32) (k : Nat) (h : ¬ (11 = ow c ∧ k = i)) : en G (sI σ c i j v) 11 k = en G σ 11 k := sorry
theorem efI_1000 (G : Gl) (σ : Sg) (c i j : Nat) (v : Int32) (k : Nat) (h : ¬ (1000 = ow c ∧ k = i)) : en G (sI σ c i j v) 1000 k = en G σ 1000 k := sorry
theorem efI_1002 (G : Gl) (σ : Sg) (c i j : Nat) (v : Int32) (k : Nat) (h : ¬ (1002 = ow c ∧ k = i)) : en G (sI σ c i j v) 1002 k = en G σ 1002 k := sorry
theorem efI_1006 (G : Gl) (σ : Sg) (c i j : Nat) (v : Int32) (k : Nat) (h : ¬ (1006 = ow c ∧ k = i)) : en G (sI σ c i j v) 1006 k = en G σ 1006 k := sorry
theorem efI_1007 (G : Gl) (σ : Sg) (c i j : Nat) (v : Int32) (k : Nat) (h : ¬ (1007 = ow c ∧ k = i)) : en G (sI σ c i j v) 1007 k = en G σ 1007 k := sorry
theorem efI_1008 (G : Gl) (σ : Sg) (c i j : Nat) (v : Int32) (k : Nat) (h : ¬ (1008 = ow c ∧ k = i)) : en G (sI σ c i j v) 1008 k = en G σ 1008 k := sorry
theorem efI_1023 (G : Gl) (σ : Sg) (c i j : Nat) (v : Int32) (k : Nat) (h : ¬ (1023 = ow c ∧ k = i)) : en G (sI σ c i j v) 1023 k = en G σ 1023 k := sorry
theorem efI_1025 (G : Gl) (σ : Sg) (c i j : Nat) (v : Int32) (k : Nat) (h : ¬ (1025 = ow c ∧ k = i)) : en G (sI σ c i j v) 1025 k = en G σ 1025 k := sorry
theorem efI_1027 (G : Gl) (σ : Sg) (c i j : Nat) (v : Int32) (k : Nat) (h : ¬ (1027 = ow c ∧ k = i)) : en G (sI σ c i j v) 1027 k = en G σ 1027 k := sorry
theorem efI_1029 (G : Gl) (σ : Sg) (c i j : Nat) (v : Int32) (k : Nat) (h : ¬ (1029 = ow c ∧ k = i)) : en G (sI σ c i j v) 1029 k = en G σ 1029 k := sorry
theorem efI_1030 (G : Gl) (σ : Sg) (c i j : Nat) (v : Int32) (k : Nat) (h : ¬ (1030 = ow c ∧ k = i)) : en G (sI σ c i j v) 1030 k = en G σ 1030 k := sorry
theorem efI_1031 (G : Gl) (σ : Sg) (c i j : Nat) (v : Int32) (k : Nat) (h : ¬ (1031 = ow c ∧ k = i)) : en G (sI σ c i j v) 1031 k = en G σ 1031 k := sorry
theorem efI_1125 (G : Gl) (σ : Sg) (c i j : Nat) (v : Int32) (k : Nat) (h : ¬ (1125 = ow c ∧ k = i)) : en G (sI σ c i j v) 1125 k = en G σ 1125 k := sorry
theorem efI_1211 (G : Gl) (σ : Sg) (c i j : Nat) (v : Int32) (k : Nat) (h : ¬ (1211 = ow c ∧ k = i)) : en G (sI σ c i j v) 1211 k = en G σ 1211 k := sorry
theorem efI_1503 (G : Gl) (σ : Sg) (c i j : Nat) (v : Int32) (k : Nat) (h : ¬ (1503 = ow c ∧ k = i)) : en G (sI σ c i j v) 1503 k = en G σ 1503 k := sorry
theorem efI_1509 (G : Gl) (σ : Sg) (c i j : Nat) (v : Int32) (k : Nat) (h : ¬ (1509 = ow c ∧ k = i)) : en G (sI σ c i j v) 1509 k = en G σ 1509 k := sorry
theorem efI_1510 (G : Gl) (σ : Sg) (c i j : Nat) (v : Int32) (k : Nat) (h : ¬ (1510 = ow c ∧ k = i)) : en G (sI σ c i j v) 1510 k = en G σ 1510 k := sorry
theorem efI_1511 (G : Gl) (σ : Sg) (c i j : Nat) (v : Int32) (k : Nat) (h : ¬ (1511 = ow c ∧ k = i)) : en G (sI σ c i j v) 1511 k = en G σ 1511 k := sorry
theorem efI_1512 (G : Gl) (σ : Sg) (c i j : Nat) (v : Int32) (k : Nat) (h : ¬ (1512 = ow c ∧ k = i)) : en G (sI σ c i j v) 1512 k = en G σ 1512 k := sorry
theorem efI_1513 (G : Gl) (σ : Sg) (c i j : Nat) (v : Int32) (k : Nat) (h : ¬ (1513 = ow c ∧ k = i)) : en G (sI σ c i j v) 1513 k = en G σ 1513 k := sorry
theorem efI_1514 (G : Gl) (σ : Sg) (c i j : Nat) (v : Int32) (k : Nat) (h : ¬ (1514 = ow c ∧ k = i)) : en G (sI σ c i j v) 1514 k = en G σ 1514 k := sorry
theorem efI_1609 (G : Gl) (σ : Sg) (c i j : Nat) (v : Int32) (k : Nat) (h : ¬ (1609 = ow c ∧ k = i)) : en G (sI σ c i j v) 1609 k = en G σ 1609 k := sorry
theorem efI_1612 (G : Gl) (σ : Sg) (c i j : Nat) (v : Int32) (k : Nat) (h : ¬ (1612 = ow c ∧ k = i)) : en G (sI σ c i j v) 1612 k = en G σ 1612 k := sorry
theorem efI_1801 (G : Gl) (σ : Sg) (c i j : Nat) (v : Int32) (k : Nat) (h : ¬ (1801 = ow c ∧ k = i)) : en G (sI σ c i j v) 1801 k = en G σ 1801 k := sorry
theorem efI_1802 (G : Gl) (σ : Sg) (c i j : Nat) (v : Int32) (k : Nat) (h : ¬ (1802 = ow c ∧ k = i)) : en G (sI σ c i j v) 1802 k = en G σ 1802 k := sorry
theorem efI_1902 (G : Gl) (σ : Sg) (c i j : Nat) (v : Int32) (k : Nat) (h : ¬ (1902 = ow c ∧ k = i)) : en G (sI σ c i j v) 1902 k = en G σ 1902 k := sorry
theorem efI_1903 (G : Gl) (σ : Sg) (c i j : Nat) (v : Int32) (k : Nat) (h : ¬ (1903 = ow c ∧ k = i)) : en G (sI σ c i j v) 1903 k = en G σ 1903 k := sorry
theorem efI_1904 (G : Gl) (σ : Sg) (c i j : Nat) (v : Int32) (k : Nat) (h : ¬ (1904 = ow c ∧ k = i)) : en G (sI σ c i j v) 1904 k = en G σ 1904 k := sorry
theorem efI_1906 (G : Gl) (σ : Sg) (c i j : Nat) (v : Int32) (k : Nat) (h : ¬ (1906 = ow c ∧ k = i)) : en G (sI σ c i j v) 1906 k = en G σ 1906 k := sorry
theorem efI_1908 (G : Gl) (σ : Sg) (c i j : Nat) (v : Int32) (k : Nat) (h : ¬ (1908 = ow c ∧ k = i)) : en G (sI σ c i j v) 1908 k = en G σ 1908 k := sorry
theorem efI_1910 (G : Gl) (σ : Sg) (c i j : Nat) (v : Int32) (k : Nat) (h : ¬ (1910 = ow c ∧ k = i)) : en G (sI σ c i j v) 1910 k = en G σ 1910 k := sorry
theorem efI_1915 (G : Gl) (σ : Sg) (c i j : Nat) (v : Int32) (k : Nat) (h : ¬ (1915 = ow c ∧ k = i)) : en G (sI σ c i j v) 1915 k = en G σ 1915 k := sorry
theorem efI_1918 (G : Gl) (σ : Sg) (c i j : Nat) (v : Int32) (k : Nat) (h : ¬ (1918 = ow c ∧ k = i)) : en G (sI σ c i j v) 1918 k = en G σ 1918 k := sorry
theorem efI_1919 (G : Gl) (σ : Sg) (c i j : Nat) (v : Int32) (k : Nat) (h : ¬ (1919 = ow c ∧ k = i)) : en G (sI σ c i j v) 1919 k = en G σ 1919 k := sorry
theorem efI_2001 (G : Gl) (σ : Sg) (c i j : Nat) (v : Int32) (k : Nat) (h : ¬ (2001 = ow c ∧ k = i)) : en G (sI σ c i j v) 2001 k = en G σ 2001 k := sorry
theorem efI_2003 (G : Gl) (σ : Sg) (c i j : Nat) (v : Int32) (k : Nat) (h : ¬ (2003 = ow c ∧ k = i)) : en G (sI σ c i j v) 2003 k = en G σ 2003 k := sorry
theorem efI_2004 (G : Gl) (σ : Sg) (c i j : Nat) (v : Int32) (k : Nat) (h : ¬ (2004 = ow c ∧ k = i)) : en G (sI σ c i j v) 2004 k = en G σ 2004 k := sorry
theorem efI_2010 (G : Gl) (σ : Sg) (c i j : Nat) (v : Int32) (k : Nat) (h : ¬ (2010 = ow c ∧ k = i)) : en G (sI σ c i j v) 2010 k = en G σ 2010 k := sorry
theorem efI_2012 (G : Gl) (σ : Sg) (c i j : Nat) (v : Int32) (k : Nat) (h : ¬ (2012 = ow c ∧ k = i)) : en G (sI σ c i j v) 2012 k = en G σ 2012 k := sorry
theorem efI_2100 (G : Gl) (σ : Sg) (c i j : Nat) (v : Int32) (k : Nat) (h : ¬ (2100 = ow c ∧ k = i)) : en G (sI σ c i j v) 2100 k = en G σ 2100 k := sorry
theorem efI_2102 (G : Gl) (σ : Sg) (c i j : Nat) (v : Int32) (k : Nat) (h : ¬ (2102 = ow c ∧ k = i)) : en G (sI σ c i j v) 2102 k = en G σ 2102 k := sorry
theorem efI_2104 (G : Gl) (σ : Sg) (c i j : Nat) (v : Int32) (k : Nat) (h : ¬ (2104 = ow c ∧ k = i)) : en G (sI σ c i j v) 2104 k = en G σ 2104 k := sorry
theorem efI_2105 (G : Gl) (σ : Sg) (c i j : Nat) (v : Int32) (k : Nat) (h : ¬ (2105 = ow c ∧ k = i)) : en G (sI σ c i j v) 2105 k = en G σ 2105 k := sorry
theorem efI_2106 (G : Gl) (σ : Sg) (c i j : Nat) (v : Int32) (k : Nat) (h : ¬ (2106 = ow c ∧ k = i)) : en G (sI σ c i j v) 2106 k = en G σ 2106 k := sorry
theorem efI_2107 (G : Gl) (σ : Sg) (c i j : Nat) (v : Int32) (k : Nat) (h : ¬ (2107 = ow c ∧ k = i)) : en G (sI σ c i j v) 2107 k = en G σ 2107 k := sorry
theorem efI_2108 (G : Gl) (σ : Sg) (c i j : Nat) (v : Int32) (k : Nat) (h : ¬ (2108 = ow c ∧ k = i)) : en G (sI σ c i j v) 2108 k = en G σ 2108 k := sorry
theorem efI_2109 (G : Gl) (σ : Sg) (c i j : Nat) (v : Int32) (k : Nat) (h : ¬ (2109 = ow c ∧ k = i)) : en G (sI σ c i j v) 2109 k = en G σ 2109 k := sorry
theorem efI_2111 (G : Gl) (σ : Sg) (c i j : Nat) (v : Int32) (k : Nat) (h : ¬ (2111 = ow c ∧ k = i)) : en G (sI σ c i j v) 2111 k = en G σ 2111 k := sorry
theorem efI_2112 (G : Gl) (σ : Sg) (c i j : Nat) (v : Int32) (k : Nat) (h : ¬ (2112 = ow c ∧ k = i)) : en G (sI σ c i j v) 2112 k = en G σ 2112 k := sorry
theorem efI_2113 (G : Gl) (σ : Sg) (c i j : Nat) (v : Int32) (k : Nat) (h : ¬ (2113 = ow c ∧ k = i)) : en G (sI σ c i j v) 2113 k = en G σ 2113 k := sorry
theorem efI_2115 (G : Gl) (σ : Sg) (c i j : Nat) (v : Int32) (k : Nat) (h : ¬ (2115 = ow c ∧ k = i)) : en G (sI σ c i j v) 2115 k = en G σ 2115 k := sorry
theorem efI_2116 (G : Gl) (σ : Sg) (c i j : Nat) (v : Int32) (k : Nat) (h : ¬ (2116 = ow c ∧ k = i)) : en G (sI σ c i j v) 2116 k = en G σ 2116 k := sorry
theorem efI_2123 (G : Gl) (σ : Sg) (c i j : Nat) (v : Int32) (k : Nat) (h : ¬ (2123 = ow c ∧ k = i)) : en G (sI σ c i j v) 2123 k = en G σ 2123 k := sorry
theorem efI_2125 (G : Gl) (σ : Sg) (c i j : Nat) (v : Int32) (k : Nat) (h : ¬ (2125 = ow c ∧ k = i)) : en G (sI σ c i j v) 2125 k = en G σ 2125 k := sorry
theorem efI_2127 (G : Gl) (σ : Sg) (c i j : Nat) (v : Int32) (k : Nat) (h : ¬ (2127 = ow c ∧ k = i)) : en G (sI σ c i j v) 2127 k = en G σ 2127 k := sorry
theorem efI_2129 (G : Gl) (σ : Sg) (c i j : Nat) (v : Int32) (k : Nat) (h : ¬ (2129 = ow c ∧ k = i)) : en G (sI σ c i j v) 2129 k = en G σ 2129 k := sorry
theorem efI_2131 (G : Gl) (σ : Sg) (c i j : Nat) (v : Int32) (k : Nat) (h : ¬ (2131 = ow c ∧ k = i)) : en G (sI σ c i j v) 2131 k = en G σ 2131 k := sorry
theorem efI_2132 (G : Gl) (σ : Sg) (c i j : Nat) (v : Int32) (k : Nat) (h : ¬ (2132 = ow c ∧ k = i)) : en G (sI σ c i j v) 2132 k = en G σ 2132 k := sorry
theorem efI_2134 (G : Gl) (σ : Sg) (c i j : Nat) (v : Int32) (k : Nat) (h : ¬ (2134 = ow c ∧ k = i)) : en G (sI σ c i j v) 2134 k = en G σ 2134 k := sorry
theorem efI_2136 (G : Gl) (σ : Sg) (c i j : Nat) (v : Int32) (k : Nat) (h : ¬ (2136 = ow c ∧ k = i)) : en G (sI σ c i j v) 2136 k = en G σ 2136 k := sorry
theorem efI_2137 (G : Gl) (σ : Sg) (c i j : Nat) (v : Int32) (k : Nat) (h : ¬ (2137 = ow c ∧ k = i)) : en G (sI σ c i j v) 2137 k = en G σ 2137 k := sorry
theorem efI_2139 (G : Gl) (σ : Sg) (c i j : Nat) (v : Int32) (k : Nat) (h : ¬ (2139 = ow c ∧ k = i)) : en G (sI σ c i j v) 2139 k = en G σ 2139 k := sorry
theorem efI_2140 (G : Gl) (σ : Sg) (c i j : Nat) (v : Int32) (k : Nat) (h : ¬ (2140 = ow c ∧ k = i)) : en G (sI σ c i j v) 2140 k = en G σ 2140 k := sorry
theorem efI_2141 (G : Gl) (σ : Sg) (c i j : Nat) (v : Int32) (k : Nat) (h : ¬ (2141 = ow c ∧ k = i)) : en G (sI σ c i j v) 2141 k = en G σ 2141 k := sorry
theorem efI_2142 (G : Gl) (σ : Sg) (c i j : Nat) (v : Int32) (k : Nat) (h : ¬ (2142 = ow c ∧ k = i)) : en G (sI σ c i j v) 2142 k = en G σ 2142 k := sorry
theorem efI_2143 (G : Gl) (σ : Sg) (c i j : Nat) (v : Int32) (k : Nat) (h : ¬ (2143 = ow c ∧ k = i)) : en G (sI σ c i j v) 2143 k = en G σ 2143 k := sorry
theorem efI_2144 (G : Gl) (σ : Sg) (c i j : Nat) (v : Int32) (k : Nat) (h : ¬ (2144 = ow c ∧ k = i)) : en G (sI σ c i j v) 2144 k = en G σ 2144 k := sorry
theorem efI_2152 (G : Gl) (σ : Sg) (c i j : Nat) (v : Int32) (k : Nat) (h : ¬ (2152 = ow c ∧ k = i)) : en G (sI σ c i j v) 2152 k = en G σ 2152 k := sorry
theorem efI_2154 (G : Gl) (σ : Sg) (c i j : Nat) (v : Int32) (k : Nat) (h : ¬ (2154 = ow c ∧ k = i)) : en G (sI σ c i j v) 2154 k = en G σ 2154 k := sorry
theorem efI_2155 (G : Gl) (σ : Sg) (c i j : Nat) (v : Int32) (k : Nat) (h : ¬ (2155 = ow c ∧ k = i)) : en G (sI σ c i j v) 2155 k = en G σ 2155 k := sorry
theorem efI_2157 (G : Gl) (σ : Sg) (c i j : Nat) (v : Int32) (k : Nat) (h : ¬ (2157 = ow c ∧ k = i)) : en G (sI σ c i j v) 2157 k = en G σ 2157 k := sorry
theorem efI_2159 (G : Gl) (σ : Sg) (c i j : Nat) (v : Int32) (k : Nat) (h : ¬ (2159 = ow c ∧ k = i)) : en G (sI σ c i j v) 2159 k = en G σ 2159 k := sorry
theorem efI_2160 (G : Gl) (σ : Sg) (c i j : Nat) (v : Int32) (k : Nat) (h : ¬ (2160 = ow c ∧ k = i)) : en G (sI σ c i j v) 2160 k = en G σ 2160 k := sorry
theorem efI_2161 (G : Gl) (σ : Sg) (c i j : Nat) (v : Int32) (k : Nat) (h : ¬ (2161 = ow c ∧ k = i)) : en G (sI σ c i j v) 2161 k = en G σ 2161 k := sorry
theorem efI_2162 (G : Gl) (σ : Sg) (c i j : Nat) (v : Int32) (k : Nat) (h : ¬ (2162 = ow c ∧ k = i)) : en G (sI σ c i j v) 2162 k = en G σ 2162 k := sorry
theorem efI_2163 (G : Gl) (σ : Sg) (c i j : Nat) (v : Int32) (k : Nat) (h : ¬ (2163 = ow c ∧ k = i)) : en G (sI σ c i j v) 2163 k = en G σ 2163 k := sorry
theorem efI_2165 (G : Gl) (σ : Sg) (c i j : Nat) (v : Int32) (k : Nat) (h : ¬ (2165 = ow c ∧ k = i)) : en G (sI σ c i j v) 2165 k = en G σ 2165 k := sorry
theorem efI_2167 (G : Gl) (σ : Sg) (c i j : Nat) (v : Int32) (k : Nat) (h : ¬ (2167 = ow c ∧ k = i)) : en G (sI σ c i j v) 2167 k = en G σ 2167 k := sorry
theorem efI_2168 (G : Gl) (σ : Sg) (c i j : Nat) (v : Int32) (k : Nat) (h : ¬ (2168 = ow c ∧ k = i)) : en G (sI σ c i j v) 2168 k = en G σ 2168 k := sorry
theorem efI_2169 (G : Gl) (σ : Sg) (c i j : Nat) (v : Int32) (k : Nat) (h : ¬ (2169 = ow c ∧ k = i)) : en G (sI σ c i j v) 2169 k = en G σ 2169 k := sorry
theorem efI_2170 (G : Gl) (σ : Sg) (c i j : Nat) (v : Int32) (k : Nat) (h : ¬ (2170 = ow c ∧ k = i)) : en G (sI σ c i j v) 2170 k = en G σ 2170 k := sorry
theorem efI_2171 (G : Gl) (σ : Sg) (c i j : Nat) (v : Int32) (k : Nat) (h : ¬ (2171 = ow c ∧ k = i)) : en G (sI σ c i j v) 2171 k = en G σ 2171 k := sorry
theorem efI_2172 (G : Gl) (σ : Sg) (c i j : Nat) (v : Int32) (k : Nat) (h : ¬ (2172 = ow c ∧ k = i)) : en G (sI σ c i j v) 2172 k = en G σ 2172 k := sorry
theorem efI_2173 (G : Gl) (σ : Sg) (c i j : Nat) (v : Int32) (k : Nat) (h : ¬ (2173 = ow c ∧ k = i)) : en G (sI σ c i j v) 2173 k = en G σ 2173 k := sorry
theorem efI_2177 (G : Gl) (σ : Sg) (c i j : Nat) (v : Int32) (k : Nat) (h : ¬ (2177 = ow c ∧ k = i)) : en G (sI σ c i j v) 2177 k = en G σ 2177 k := sorry
theorem efI_2178 (G : Gl) (σ : Sg) (c i j : Nat) (v : Int32) (k : Nat) (h : ¬ (2178 = ow c ∧ k = i)) : en G (sI σ c i j v) 2178 k = en G σ 2178 k := sorry
theorem efI_2179 (G : Gl) (σ : Sg) (c i j : Nat) (v : Int32) (k : Nat) (h : ¬ (2179 = ow c ∧ k = i)) : en G (sI σ c i j v) 2179 k = en G σ 2179 k := sorry
theorem efI_2180 (G : Gl) (σ : Sg) (c i j : Nat) (v : Int32) (k : Nat) (h : ¬ (2180 = ow c ∧ k = i)) : en G (sI σ c i j v) 2180 k = en G σ 2180 k := sorry
theorem efI_2181 (G : Gl) (σ : Sg) (c i j : Nat) (v : Int32) (k : Nat) (h : ¬ (2181 = ow c ∧ k = i)) : en G (sI σ c i j v) 2181 k = en G σ 2181 k := sorry
theorem efI_2182 (G : Gl) (σ : Sg) (c i j : Nat) (v : Int32) (k : Nat) (h : ¬ (2182 = ow c ∧ k = i)) : en G (sI σ c i j v) 2182 k = en G σ 2182 k := sorry
theorem efI_2185 (G : Gl) (σ : Sg) (c i j : Nat) (v : Int32) (k : Nat) (h : ¬ (2185 = ow c ∧ k = i)) : en G (sI σ c i j v) 2185 k = en G σ 2185 k := sorry
theorem efI_2187 (G : Gl) (σ : Sg) (c i j : Nat) (v : Int32) (k : Nat) (h : ¬ (2187 = ow c ∧ k = i)) : en G (sI σ c i j v) 2187 k = en G σ 2187 k := sorry
theorem efI_2188 (G : Gl) (σ : Sg) (c i j : Nat) (v : Int32) (k : Nat) (h : ¬ (2188 = ow c ∧ k = i)) : en G (sI σ c i j v) 2188 k = en G σ 2188 k := sorry
theorem efI_2190 (G : Gl) (σ : Sg) (c i j : Nat) (v : Int32) (k : Nat) (h : ¬ (2190 = ow c ∧ k = i)) : en G (sI σ c i j v) 2190 k = en G σ 2190 k := sorry
theorem efI_2193 (G : Gl) (σ : Sg) (c i j : Nat) (v : Int32) (k : Nat) (h : ¬ (2193 = ow c ∧ k = i)) : en G (sI σ c i j v) 2193 k = en G σ 2193 k := sorry
theorem efI_2194 (G : Gl) (σ : Sg) (c i j : Nat) (v : Int32) (k : Nat) (h : ¬ (2194 = ow c ∧ k = i)) : en G (sI σ c i j v) 2194 k = en G σ 2194 k := sorry
theorem efI_2196 (G : Gl) (σ : Sg) (c i j : Nat) (v : Int32) (k : Nat) (h : ¬ (2196 = ow c ∧ k = i)) : en G (sI σ c i j v) 2196 k = en G σ 2196 k := sorry
theorem efI_2197 (G : Gl) (σ : Sg) (c i j : Nat) (v : Int32) (k : Nat) (h : ¬ (2197 = ow c ∧ k = i)) : en G (sI σ c i j v) 2197 k = en G σ 2197 k := sorry
theorem efI_2199 (G : Gl) (σ : Sg) (c i j : Nat) (v : Int32) (k : Nat) (h : ¬ (2199 = ow c ∧ k = i)) : en G (sI σ c i j v) 2199 k = en G σ 2199 k := sorry
theorem efI_2200 (G : Gl) (σ : Sg) (c i j : Nat) (v : Int32) (k : Nat) (h : ¬ (2200 = ow c ∧ k = i)) : en G (sI σ c i j v) 2200 k = en G σ 2200 k := sorry
theorem efI_2203 (G : Gl) (σ : Sg) (c i j : Nat) (v : Int32) (k : Nat) (h : ¬ (2203 = ow c ∧ k = i)) : en G (sI σ c i j v) 2203 k = en G σ 2203 k := sorry
theorem efI_2205 (G : Gl) (σ : Sg) (c i j : Nat) (v : Int32) (k : Nat) (h : ¬ (2205 = ow c ∧ k = i)) : en G (sI σ c i j v) 2205 k = en G σ 2205 k := sorry
theorem efI_2206 (G : Gl) (σ : Sg) (c i j : Nat) (v : Int32) (k : Nat) (h : ¬ (2206 = ow c ∧ k = i)) : en G (sI σ c i j v) 2206 k = en G σ 2206 k := sorry
theorem efI_2207 (G : Gl) (σ : Sg) (c i j : Nat) (v : Int32) (k : Nat) (h : ¬ (2207 = ow c ∧ k = i)) : en G (sI σ c i j v) 2207 k = en G σ 2207 k := sorry
theorem efI_2215 (G : Gl) (σ : Sg) (c i j : Nat) (v : Int32) (k : Nat) (h : ¬ (2215 = ow c ∧ k = i)) : en G (sI σ c i j v) 2215 k = en G σ 2215 k := sorry
theorem efI_2217 (G : Gl) (σ : Sg) (c i j : Nat) (v : Int32) (k : Nat) (h : ¬ (2217 = ow c ∧ k = i)) : en G (sI σ c i j v) 2217 k = en G σ 2217 k := sorry
theorem efI_2218 (G : Gl) (σ : Sg) (c i j : Nat) (v : Int32) (k : Nat) (h : ¬ (2218 = ow c ∧ k = i)) : en G (sI σ c i j v) 2218 k = en G σ 2218 k := sorry
theorem efI_2219 (G : Gl) (σ : Sg) (c i j : Nat) (v : Int32) (k : Nat) (h : ¬ (2219 = ow c ∧ k = i)) : en G (sI σ c i j v) 2219 k = en G σ 2219 k := sorry
theorem efI_2220 (G : Gl) (σ : Sg) (c i j : Nat) (v : Int32) (k : Nat) (h : ¬ (2220 = ow c ∧ k = i)) : en G (sI σ c i j v) 2220 k = en G σ 2220 k := sorry
theorem efI_2224 (G : Gl) (σ : Sg) (c i j : Nat) (v : Int32) (k : Nat) (h : ¬ (2224 = ow c ∧ k = i)) : en G (sI σ c i j v) 2224 k = en G σ 2224 k := sorry
theorem efI_2227 (G : Gl) (σ : Sg) (c i j : Nat) (v : Int32) (k : Nat) (h : ¬ (2227 = ow c ∧ k = i)) : en G (sI σ c i j v) 2227 k = en G σ 2227 k := sorry
theorem efI_2230 (G : Gl) (σ : Sg) (c i j : Nat) (v : Int32) (k : Nat) (h : ¬ (2230 = ow c ∧ k = i)) : en G (sI σ c i j v) 2230 k = en G σ 2230 k := sorry
theorem efI_2231 (G : Gl) (σ : Sg) (c i j : Nat) (v : Int32) (k : Nat) (h : ¬ (2231 = ow c ∧ k = i)) : en G (sI σ c i j v) 2231 k = en G σ 2231 k := sorry
theorem efI_2232 (G : Gl) (σ : Sg) (c i j : Nat) (v : Int32) (k : Nat) (h : ¬ (2232 = ow c ∧ k = i)) : en G (sI σ c i j v) 2232 k = en G σ 2232 k := sorry
theorem efI_2233 (G : Gl) (σ : Sg) (c i j : Nat) (v : Int32) (k : Nat) (h : ¬ (2233 = ow c ∧ k = i)) : en G (sI σ c i j v) 2233 k = en G σ 2233 k := sorry
theorem efI_2235 (G : Gl) (σ : Sg) (c i j : Nat) (v : Int32) (k : Nat) (h : ¬ (2235 = ow c ∧ k = i)) : en G (sI σ c i j v) 2235 k = en G σ 2235 k := sorry
theorem efI_2238 (G : Gl) (σ : Sg) (c i j : Nat) (v : Int32) (k : Nat) (h : ¬ (2238 = ow c ∧ k = i)) : en G (sI σ c i j v) 2238 k = en G σ 2238 k := sorry
theorem efI_2241 (G : Gl) (σ : Sg) (c i j : Nat) (v : Int32) (k : Nat) (h : ¬ (2241 = ow c ∧ k = i)) : en G (sI σ c i j v) 2241 k = en G σ 2241 k := sorry
theorem efI_2243 (G : Gl) (σ : Sg) (c i j : Nat) (v : Int32) (k : Nat) (h : ¬ (2243 = ow c ∧ k = i)) : en G (sI σ c i j v) 2243 k = en G σ 2243 k := sorry
theorem efI_2244 (G : Gl) (σ : Sg) (c i j : Nat) (v : Int32) (k : Nat) (h : ¬ (2244 = ow c ∧ k = i)) : en G (sI σ c i j v) 2244 k = en G σ 2244 k := sorry
theorem efI_2246 (G : Gl) (σ : Sg) (c i j : Nat) (v : Int32) (k : Nat) (h : ¬ (2246 = ow c ∧ k = i)) : en G (sI σ c i j v) 2246 k = en G σ 2246 k := sorry
theorem efI_2247 (G : Gl) (σ : Sg) (c i j : Nat) (v : Int32) (k : Nat) (h : ¬ (2247 = ow c ∧ k = i)) : en G (sI σ c i j v) 2247 k = en G σ 2247 k := sorry
theorem efI_2248 (G : Gl) (σ : Sg) (c i j : Nat) (v : Int32) (k : Nat) (h : ¬ (2248 = ow c ∧ k = i)) : en G (sI σ c i j v) 2248 k = en G σ 2248 k := sorry
theorem efI_2249 (G : Gl) (σ : Sg) (c i j : Nat) (v : Int32) (k : Nat) (h : ¬ (2249 = ow c ∧ k = i)) : en G (sI σ c i j v) 2249 k = en G σ 2249 k := sorry
theorem efI_2250 (G : Gl) (σ : Sg) (c i j : Nat) (v : Int32) (k : Nat) (h : ¬ (2250 = ow c ∧ k = i)) : en G (sI σ c i j v) 2250 k = en G σ 2250 k := sorry
theorem efI_2252 (G : Gl) (σ : Sg) (c i j : Nat) (v : Int32) (k : Nat) (h : ¬ (2252 = ow c ∧ k = i)) : en G (sI σ c i j v) 2252 k = en G σ 2252 k := sorry
theorem efI_2254 (G : Gl) (σ : Sg) (c i j : Nat) (v : Int32) (k : Nat) (h : ¬ (2254 = ow c ∧ k = i)) : en G (sI σ c i j v) 2254 k = en G σ 2254 k := sorry
theorem efI_2256 (G : Gl) (σ : Sg) (c i j : Nat) (v : Int32) (k : Nat) (h : ¬ (2256 = ow c ∧ k = i)) : en G (sI σ c i j v) 2256 k = en G σ 2256 k := sorry
theorem efI_2257 (G : Gl) (σ : Sg) (c i j : Nat) (v : Int32) (k : Nat) (h : ¬ (2257 = ow c ∧ k = i)) : en G (sI σ c i j v) 2257 k = en G σ 2257 k := sorry
theorem efI_2258 (G : Gl) (σ : Sg) (c i j : Nat) (v : Int32) (k : Nat) (h : ¬ (2258 = ow c ∧ k = i)) : en G (sI σ c i j v) 2258 k = en G σ 2258 k := sorry
theorem efI_2259 (G : Gl) (σ : Sg) (c i j : Nat) (v : Int32) (k : Nat) (h : ¬ (2259 = ow c ∧ k = i)) : en G (sI σ c i j v) 2259 k = en G σ 2259 k := sorry
theorem efI_2260 (G : Gl) (σ : Sg) (c i j : Nat) (v : Int32) (k : Nat) (h : ¬ (2260 = ow c ∧ k = i)) : en G (sI σ c i j v) 2260 k = en G σ 2260 k := sorry
theorem efI_2268 (G : Gl) (σ : Sg) (c i j : Nat) (v : Int32) (k : Nat) (h : ¬ (2268 = ow c ∧ k = i)) : en G (sI σ c i j v) 2268 k = en G σ 2268 k := sorry
theorem efI_2270 (G : Gl) (σ : Sg) (c i j : Nat) (v : Int32) (k : Nat) (h : ¬ (2270 = ow c ∧ k = i)) : en G (sI σ c i j v) 2270 k = en G σ 2270 k := sorry
theorem efI_2272 (G : Gl) (σ : Sg) (c i j : Nat) (v : Int32) (k : Nat) (h : ¬ (2272 = ow c ∧ k = i)) : en G (sI σ c i j v) 2272 k = en G σ 2272 k := sorry
theorem efI_2274 (G : Gl) (σ : Sg) (c i j : Nat) (v : Int32) (k : Nat) (h : ¬ (2274 = ow c ∧ k = i)) : en G (sI σ c i j v) 2274 k = en G σ 2274 k := sorry
theorem efI_2276 (G : Gl) (σ : Sg) (c i j : Nat) (v : Int32) (k : Nat) (h : ¬ (2276 = ow c ∧ k = i)) : en G (sI σ c i j v) 2276 k = en G σ 2276 k := sorry
theorem efI_2277 (G : Gl) (σ : Sg) (c i j : Nat) (v : Int32) (k : Nat) (h : ¬ (2277 = ow c ∧ k = i)) : en G (sI σ c i j v) 2277 k = en G σ 2277 k := sorry
theorem efI_2278 (G : Gl) (σ : Sg) (c i j : Nat) (v : Int32) (k : Nat) (h : ¬ (2278 = ow c ∧ k = i)) : en G (sI σ c i j v) 2278 k = en G σ 2278 k := sorry
theorem efI_2279 (G : Gl) (σ : Sg) (c i j : Nat) (v : Int32) (k : Nat) (h : ¬ (2279 = ow c ∧ k = i)) : en G (sI σ c i j v) 2279 k = en G σ 2279 k := sorry
theorem efI (G : Gl) (σ : Sg) (c i j : Nat) (v : Int32) : ∀ g k, k < cnt g → ¬ (g = ow c ∧ k = i) → en G (sI σ c i j v) g k = en G σ g k := sorry
theorem efB_1 (G : Gl) (σ : Sg) (c i j : Nat) (v : Bool) (k : Nat) (h : ¬ (1 = ow c ∧ k = i)) : en G (sB σ c i j v) 1 k = en G σ 1 k := sorry
theorem efB_2 (G : Gl) (σ : Sg) (c i j : Nat) (v : Bool) (k : Nat) (h : ¬ (2 = ow c ∧ k = i)) : en G (sB σ c i j v) 2 k = en G σ 2 k := sorry
theorem efB_6 (G : Gl) (σ : Sg) (c i j : Nat) (v : Bool) (k : Nat) (h : ¬ (6 = ow c ∧ k = i)) : en G (sB σ c i j v) 6 k = en G σ 6 k := sorry
theorem efB_11 (G : Gl) (σ : Sg) (c i j : Nat) (v : Bool) (k : Nat) (h : ¬ (11 = ow c ∧ k = i)) : en G (sB σ c i j v) 11 k = en G σ 11 k := sorry
theorem efB_1309 (G : Gl) (σ : Sg) (c i j : Nat) (v : Bool) (k : Nat) (h : ¬ (1309 = ow c ∧ k = i)) : en G (sB σ c i j v) 1309 k = en G σ 1309 k := sorry
theorem efB_1920 (G : Gl) (σ : Sg) (c i j : Nat) (v : Bool) (k : Nat) (h : ¬ (1920 = ow c ∧ k = i)) : en G (sB σ c i j v) 1920 k = en G σ 1920 k := sorry
theorem efB_2126 (G : Gl) (σ : Sg) (c i j : Nat) (v : Bool) (k : Nat) (h : ¬ (2126 = ow c ∧ k = i)) : en G (sB σ c i j v) 2126 k = en G σ 2126 k := sorry
theorem efB_2145 (G : Gl) (σ : Sg) (c i j : Nat) (v : Bool) (k : Nat) (h : ¬ (2145 = ow c ∧ k = i)) : en G (sB σ c i j v) 2145 k = en G σ 2145 k := sorry
theorem efB_2146 (G : Gl) (σ : Sg) (c i j : Nat) (v : Bool) (k : Nat) (h : ¬ (2146 = ow c ∧ k = i)) : en G (sB σ c i j v) 2146 k = en G σ 2146 k := sorry
theorem efB_2147 (G : Gl) (σ : Sg) (c i j : Nat) (v : Bool) (k : Nat) (h : ¬ (2147 = ow c ∧ k = i)) : en G (sB σ c i j v) 2147 k = en G σ 2147 k := sorry
theorem efB_2148 (G : Gl) (σ : Sg) (c i j : Nat) (v : Bool) (k : Nat) (h : ¬ (2148 = ow c ∧ k = i)) : en G (sB σ c i j v) 2148 k = en G σ 2148 k := sorry
theorem efB_2149 (G : Gl) (σ : Sg) (c i j : Nat) (v : Bool) (k : Nat) (h : ¬ (2149 = ow c ∧ k = i)) : en G (sB σ c i j v) 2149 k = en G σ 2149 k := sorry
theorem efB_2150 (G : Gl) (σ : Sg) (c i j : Nat) (v : Bool) (k : Nat) (h : ¬ (2150 = ow c ∧ k = i)) : en G (sB σ c i j v) 2150 k = en G σ 2150 k := sorry
theorem efB_2164 (G : Gl) (σ : Sg) (c i j : Nat) (v : Bool) (k : Nat) (h : ¬ (2164 = ow c ∧ k = i)) : en G (sB σ c i j v) 2164 k = en G σ 2164 k := sorry
theorem efB (G : Gl) (σ : Sg) (c i j : Nat) (v : Bool) : ∀ g k, k < cnt g → ¬ (g = ow c ∧ k = i) → en G (sB σ c i j v) g k = en G σ g k := sorry
theorem efL_1 (G : Gl) (σ : Sg) (c i j : Nat) (v : Int64) (k : Nat) (h : ¬ (1 = ow c ∧ k = i)) : en G (sL σ c i j v) 1 k = en G σ 1 k := sorry
theorem efL_2 (G : Gl) (σ : Sg) (c i j : Nat) (v : Int64) (k : Nat) (h : ¬ (2 = ow c ∧ k = i)) : en G (sL σ c i j v) 2 k = en G σ 2 k := sorry
theorem efL_7 (G : Gl) (σ : Sg) (c i j : Nat) (v : Int64) (k : Nat) (h : ¬ (7 = ow c ∧ k = i)) : en G (sL σ c i j v) 7 k = en G σ 7 k := sorry
theorem efL_1108 (G : Gl) (σ : Sg) (c i j : Nat) (v : Int64) (k : Nat) (h : ¬ (1108 = ow c ∧ k = i)) : en G (sL σ c i j v) 1108 k = en G σ 1108 k := sorry
theorem efL_1111 (G : Gl) (σ : Sg) (c i j : Nat) (v : Int64) (k : Nat) (h : ¬ (1111 = ow c ∧ k = i)) : en G (sL σ c i j v) 1111 k = en G σ 1111 k := sorry
theorem efL_1113 (G : Gl) (σ : Sg) (c i j : Nat) (v : Int64) (k : Nat) (h : ¬ (1113 = ow c ∧ k = i)) : en G (sL σ c i j v) 1113 k = en G σ 1113 k := sorry
theorem efL_1209 (G : Gl) (σ : Sg) (c i j : Nat) (v : Int64) (k : Nat) (h : ¬ (1209 = ow c ∧ k = i)) : en G (sL σ c i j v) 1209 k = en G σ 1209 k := sorry
theorem efL_1210 (G : Gl) (σ : Sg) (c i j : Nat) (v : Int64) (k : Nat) (h : ¬ (1210 = ow c ∧ k = i)) : en G (sL σ c i j v) 1210 k = en G σ 1210 k := sorry
theorem efL_1501 (G : Gl) (σ : Sg) (c i j : Nat) (v : Int64) (k : Nat) (h : ¬ (1501 = ow c ∧ k = i)) : en G (sL σ c i j v) 1501 k = en G σ 1501 k := sorry
theorem efL_1504 (G : Gl) (σ : Sg) (c i j : Nat) (v : Int64) (k : Nat) (h : ¬ (1504 = ow c ∧ k = i)) : en G (sL σ c i j v) 1504 k = en G σ 1504 k := sorry
theorem efL_1606 (G : Gl) (σ : Sg) (c i j : Nat) (v : Int64) (k : Nat) (h : ¬ (1606 = ow c ∧ k = i)) : en G (sL σ c i j v) 1606 k = en G σ 1606 k := sorry
theorem efL_1610 (G : Gl) (σ : Sg) (c i j : Nat) (v : Int64) (k : Nat) (h : ¬ (1610 = ow c ∧ k = i)) : en G (sL σ c i j v) 1610 k = en G σ 1610 k := sorry
theorem efL_1611 (G : Gl) (σ : Sg) (c i j : Nat) (v : Int64) (k : Nat) (h : ¬ (1611 = ow c ∧ k = i)) : en G (sL σ c i j v) 1611 k = en G σ 1611 k := sorry
theorem efL_2114 (G : Gl) (σ : Sg) (c i j : Nat) (v : Int64) (k : Nat) (h : ¬ (2114 = ow c ∧ k = i)) : en G (sL σ c i j v) 2114 k = en G σ 2114 k := sorry
theorem efL_2117 (G : Gl) (σ : Sg) (c i j : Nat) (v : Int64) (k : Nat) (h : ¬ (2117 = ow c ∧ k = i)) : en G (sL σ c i j v) 2117 k = en G σ 2117 k := sorry
theorem efL_2124 (G : Gl) (σ : Sg) (c i j : Nat) (v : Int64) (k : Nat) (h : ¬ (2124 = ow c ∧ k = i)) : en G (sL σ c i j v) 2124 k = en G σ 2124 k := sorry
theorem efL_2128 (G : Gl) (σ : Sg) (c i j : Nat) (v : Int64) (k : Nat) (h : ¬ (2128 = ow c ∧ k = i)) : en G (sL σ c i j v) 2128 k = en G σ 2128 k := sorry
theorem efL_2130 (G : Gl) (σ : Sg) (c i j : Nat) (v : Int64) (k : Nat) (h : ¬ (2130 = ow c ∧ k = i)) : en G (sL σ c i j v) 2130 k = en G σ 2130 k := sorry
theorem efL_2133 (G : Gl) (σ : Sg) (c i j : Nat) (v : Int64) (k : Nat) (h : ¬ (2133 = ow c ∧ k = i)) : en G (sL σ c i j v) 2133 k = en G σ 2133 k := sorry
theorem efL_2135 (G : Gl) (σ : Sg) (c i j : Nat) (v : Int64) (k : Nat) (h : ¬ (2135 = ow c ∧ k = i)) : en G (sL σ c i j v) 2135 k = en G σ 2135 k := sorry
theorem efL_2138 (G : Gl) (σ : Sg) (c i j : Nat) (v : Int64) (k : Nat) (h : ¬ (2138 = ow c ∧ k = i)) : en G (sL σ c i j v) 2138 k = en G σ 2138 k := sorry
theorem efL_2151 (G : Gl) (σ : Sg) (c i j : Nat) (v : Int64) (k : Nat) (h : ¬ (2151 = ow c ∧ k = i)) : en G (sL σ c i j v) 2151 k = en G σ 2151 k := sorry
theorem efL_2153 (G : Gl) (σ : Sg) (c i j : Nat) (v : Int64) (k : Nat) (h : ¬ (2153 = ow c ∧ k = i)) : en G (sL σ c i j v) 2153 k = en G σ 2153 k := sorry
theorem efL_2156 (G : Gl) (σ : Sg) (c i j : Nat) (v : Int64) (k : Nat) (h : ¬ (2156 = ow c ∧ k = i)) : en G (sL σ c i j v) 2156 k = en G σ 2156 k := sorry
theorem efL_2158 (G : Gl) (σ : Sg) (c i j : Nat) (v : Int64) (k : Nat) (h : ¬ (2158 = ow c ∧ k = i)) : en G (sL σ c i j v) 2158 k = en G σ 2158 k := sorry
theorem efL_2166 (G : Gl) (σ : Sg) (c i j : Nat) (v : Int64) (k : Nat) (h : ¬ (2166 = ow c ∧ k = i)) : en G (sL σ c i j v) 2166 k = en G σ 2166 k := sorry
theorem efL_2174 (G : Gl) (σ : Sg) (c i j : Nat) (v : Int64) (k : Nat) (h : ¬ (2174 = ow c ∧ k = i)) : en G (sL σ c i j v) 2174 k = en G σ 2174 k := sorry
theorem efL_2175 (G : Gl) (σ : Sg) (c i j : Nat) (v : Int64) (k : Nat) (h : ¬ (2175 = ow c ∧ k = i)) : en G (sL σ c i j v) 2175 k = en G σ 2175 k := sorry
theorem efL_2176 (G : Gl) (σ : Sg) (c i j : Nat) (v : Int64) (k : Nat) (h : ¬ (2176 = ow c ∧ k = i)) : en G (sL σ c i j v) 2176 k = en G σ 2176 k := sorry
theorem efL_2183 (G : Gl) (σ : Sg) (c i j : Nat) (v : Int64) (k : Nat) (h : ¬ (2183 = ow c ∧ k = i)) : en G (sL σ c i j v) 2183 k = en G σ 2183 k := sorry
theorem efL_2184 (G : Gl) (σ : Sg) (c i j : Nat) (v : Int64) (k : Nat) (h : ¬ (2184 = ow c ∧ k = i)) : en G (sL σ c i j v) 2184 k = en G σ 2184 k := sorry
theorem efL_2186 (G : Gl) (σ : Sg) (c i j : Nat) (v : Int64) (k : Nat) (h : ¬ (2186 = ow c ∧ k = i)) : en G (sL σ c i j v) 2186 k = en G σ 2186 k := sorry
theorem efL_2212 (G : Gl) (σ : Sg) (c i j : Nat) (v : Int64) (k : Nat) (h : ¬ (2212 = ow c ∧ k = i)) : en G (sL σ c i j v) 2212 k = en G σ 2212 k := sorry
theorem efL_2213 (G : Gl) (σ : Sg) (c i j : Nat) (v : Int64) (k : Nat) (h : ¬ (2213 = ow c ∧ k = i)) : en G (sL σ c i j v) 2213 k = en G σ 2213 k := sorry
theorem efL_2221 (G : Gl) (σ : Sg) (c i j : Nat) (v : Int64) (k : Nat) (h : ¬ (2221 = ow c ∧ k = i)) : en G (sL σ c i j v) 2221 k = en G σ 2221 k := sorry
theorem efL_2222 (G : Gl) (σ : Sg) (c i j : Nat) (v : Int64) (k : Nat) (h : ¬ (2222 = ow c ∧ k = i)) : en G (sL σ c i j v) 2222 k = en G σ 2222 k := sorry
theorem efL_2223 (G : Gl) (σ : Sg) (c i j : Nat) (v : Int64) (k : Nat) (h : ¬ (2223 = ow c ∧ k = i)) : en G (sL σ c i j v) 2223 k = en G σ 2223 k := sorry
theorem efL_2225 (G : Gl) (σ : Sg) (c i j : Nat) (v : Int64) (k : Nat) (h : ¬ (2225 = ow c ∧ k = i)) : en G (sL σ c i j v) 2225 k = en G σ 2225 k := sorry
theorem efL_2226 (G : Gl) (σ : Sg) (c i j : Nat) (v : Int64) (k : Nat) (h : ¬ (2226 = ow c ∧ k = i)) : en G (sL σ c i j v) 2226 k = en G σ 2226 k := sorry
theorem efL (G : Gl) (σ : Sg) (c i j : Nat) (v : Int64) : ∀ g k, k < cnt g → ¬ (g = ow c ∧ k = i) → en G (sL σ c i j v) g k = en G σ g k := sorry
theorem efR_0 (G : Gl) (σ : Sg) (c i j : Nat) (v : Option Nat) (k : Nat) (h : ¬ (0 = ow c ∧ k = i)) : en G (sR σ c i j v) 0 k = en G σ 0 k := sorry
theorem efR_1 (G : Gl) (σ : Sg) (c i j : Nat) (v : Option Nat) (k : Nat) (h : ¬ (1 = ow c ∧ k = i)) : en G (sR σ c i j v) 1 k = en G σ 1 k := sorry
theorem efR_2 (G : Gl) (σ : Sg) (c i j : Nat) (v : Option Nat) (k : Nat) (h : ¬ (2 = ow c ∧ k = i)) : en G (sR σ c i j v) 2 k = en G σ 2 k := sorry
theorem efR_5 (G : Gl) (σ : Sg) (c i j : Nat) (v : Option Nat) (k : Nat) (h : ¬ (5 = ow c ∧ k = i)) : en G (sR σ c i j v) 5 k = en G σ 5 k := sorry
theorem efR_6 (G : Gl) (σ : Sg) (c i j : Nat) (v : Option Nat) (k : Nat) (h : ¬ (6 = ow c ∧ k = i)) : en G (sR σ c i j v) 6 k = en G σ 6 k := sorry
theorem efR_7 (G : Gl) (σ : Sg) (c i j : Nat) (v : Option Nat) (k : Nat) (h : ¬ (7 = ow c ∧ k = i)) : en G (sR σ c i j v) 7 k = en G σ 7 k := sorry
theorem efR_8 (G : Gl) (σ : Sg) (c i j : Nat) (v : Option Nat) (k : Nat) (h : ¬ (8 = ow c ∧ k = i)) : en G (sR σ c i j v) 8 k = en G σ 8 k := sorry
theorem efR_1302 (G : Gl) (σ : Sg) (c i j : Nat) (v : Option Nat) (k : Nat) (h : ¬ (1302 = ow c ∧ k = i)) : en G (sR σ c i j v) 1302 k = en G σ 1302 k := sorry
theorem efR_1304 (G : Gl) (σ : Sg) (c i j : Nat) (v : Option Nat) (k : Nat) (h : ¬ (1304 = ow c ∧ k = i)) : en G (sR σ c i j v) 1304 k = en G σ 1304 k := sorry
theorem efR_1306 (G : Gl) (σ : Sg) (c i j : Nat) (v : Option Nat) (k : Nat) (h : ¬ (1306 = ow c ∧ k = i)) : en G (sR σ c i j v) 1306 k = en G σ 1306 k := sorry
theorem efR_1308 (G : Gl) (σ : Sg) (c i j : Nat) (v : Option Nat) (k : Nat) (h : ¬ (1308 = ow c ∧ k = i)) : en G (sR σ c i j v) 1308 k = en G σ 1308 k := sorry
theorem efR_1311 (G : Gl) (σ : Sg) (c i j : Nat) (v : Option Nat) (k : Nat) (h : ¬ (1311 = ow c ∧ k = i)) : en G (sR σ c i j v) 1311 k = en G σ 1311 k := sorry
theorem efR_1312 (G : Gl) (σ : Sg) (c i j : Nat) (v : Option Nat) (k : Nat) (h : ¬ (1312 = ow c ∧ k = i)) : en G (sR σ c i j v) 1312 k = en G σ 1312 k := sorry
theorem efR_1607 (G : Gl) (σ : Sg) (c i j : Nat) (v : Option Nat) (k : Nat) (h : ¬ (1607 = ow c ∧ k = i)) : en G (sR σ c i j v) 1607 k = en G σ 1607 k := sorry
theorem efR_1608 (G : Gl) (σ : Sg) (c i j : Nat) (v : Option Nat) (k : Nat) (h : ¬ (1608 = ow c ∧ k = i)) : en G (sR σ c i j v) 1608 k = en G σ 1608 k := sorry
theorem efR_1615 (G : Gl) (σ : Sg) (c i j : Nat) (v : Option Nat) (k : Nat) (h : ¬ (1615 = ow c ∧ k = i)) : en G (sR σ c i j v) 1615 k = en G σ 1615 k := sorry
theorem efR_1617 (G : Gl) (σ : Sg) (c i j : Nat) (v : Option Nat) (k : Nat) (h : ¬ (1617 = ow c ∧ k = i)) : en G (sR σ c i j v) 1617 k = en G σ 1617 k := sorry
theorem efR_1806 (G : Gl) (σ : Sg) (c i j : Nat) (v : Option Nat) (k : Nat) (h : ¬ (1806 = ow c ∧ k = i)) : en G (sR σ c i j v) 1806 k = en G σ 1806 k := sorry
theorem efR_1905 (G : Gl) (σ : Sg) (c i j : Nat) (v : Option Nat) (k : Nat) (h : ¬ (1905 = ow c ∧ k = i)) : en G (sR σ c i j v) 1905 k = en G σ 1905 k := sorry
theorem efR_1917 (G : Gl) (σ : Sg) (c i j : Nat) (v : Option Nat) (k : Nat) (h : ¬ (1917 = ow c ∧ k = i)) : en G (sR σ c i j v) 1917 k = en G σ 1917 k := sorry
theorem efR_1999 (G : Gl) (σ : Sg) (c i j : Nat) (v : Option Nat) (k : Nat) (h : ¬ (1999 = ow c ∧ k = i)) : en G (sR σ c i j v) 1999 k = en G σ 1999 k := sorry
theorem efR (G : Gl) (σ : Sg) (c i j : Nat) (v : Option Nat) : ∀ g k, k < cnt g → ¬ (g = ow c ∧ k = i) → en G (sR σ c i j v) g k = en G σ g k := sorry
