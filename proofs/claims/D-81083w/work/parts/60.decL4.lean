set_option maxRecDepth 100000
theorem dL_law_1857 : decode cL_law 1857 = .ok (.iadd, 1) := by decide +kernel
theorem dL_law_1858 : decode cL_law 1858 = .ok (.iaload, 1) := by decide +kernel
theorem dL_law_1859 : decode cL_law 1859 = .ok (.aload_n 0, 1) := by decide +kernel
theorem dL_law_1860 : decode cL_law 1860 = .ok (.iload 4, 2) := by decide +kernel
theorem dL_law_1862 : decode cL_law 1862 = .ok (.bipush 6, 2) := by decide +kernel
theorem dL_law_1864 : decode cL_law 1864 = .ok (.iadd, 1) := by decide +kernel
theorem dL_law_1865 : decode cL_law 1865 = .ok (.iaload, 1) := by decide +kernel
theorem dL_law_1866 : decode cL_law 1866 = .ok (.aload_n 3, 1) := by decide +kernel
theorem dL_law_1867 : decode cL_law 1867 = .ok (.invokestatic 227, 3) := by decide +kernel
theorem dL_law_1870 : decode cL_law 1870 = .ok (.istore 5, 2) := by decide +kernel
theorem dL_law_1872 : decode cL_law 1872 = .ok (.aload_n 2, 1) := by decide +kernel
theorem dL_law_1873 : decode cL_law 1873 = .ok (.aload_n 0, 1) := by decide +kernel
theorem dL_law_1874 : decode cL_law 1874 = .ok (.iload 4, 2) := by decide +kernel
theorem dL_law_1876 : decode cL_law 1876 = .ok (.iconst 1, 1) := by decide +kernel
theorem dL_law_1877 : decode cL_law 1877 = .ok (.iadd, 1) := by decide +kernel
theorem dL_law_1878 : decode cL_law 1878 = .ok (.iaload, 1) := by decide +kernel
theorem dL_law_1879 : decode cL_law 1879 = .ok (.aload_n 0, 1) := by decide +kernel
theorem dL_law_1880 : decode cL_law 1880 = .ok (.iload 4, 2) := by decide +kernel
theorem dL_law_1882 : decode cL_law 1882 = .ok (.iconst 2, 1) := by decide +kernel
theorem dL_law_1883 : decode cL_law 1883 = .ok (.iadd, 1) := by decide +kernel
theorem dL_law_1884 : decode cL_law 1884 = .ok (.iaload, 1) := by decide +kernel
theorem dL_law_1885 : decode cL_law 1885 = .ok (.aload_n 0, 1) := by decide +kernel
theorem dL_law_1886 : decode cL_law 1886 = .ok (.iload 4, 2) := by decide +kernel
theorem dL_law_1888 : decode cL_law 1888 = .ok (.iconst 3, 1) := by decide +kernel
theorem dL_law_1889 : decode cL_law 1889 = .ok (.iadd, 1) := by decide +kernel
theorem dL_law_1890 : decode cL_law 1890 = .ok (.iaload, 1) := by decide +kernel
theorem dL_law_1891 : decode cL_law 1891 = .ok (.aload_n 0, 1) := by decide +kernel
theorem dL_law_1892 : decode cL_law 1892 = .ok (.iload 4, 2) := by decide +kernel
theorem dL_law_1894 : decode cL_law 1894 = .ok (.iconst 4, 1) := by decide +kernel
theorem dL_law_1895 : decode cL_law 1895 = .ok (.iadd, 1) := by decide +kernel
theorem dL_law_1896 : decode cL_law 1896 = .ok (.iaload, 1) := by decide +kernel
theorem dL_law_1897 : decode cL_law 1897 = .ok (.aload_n 0, 1) := by decide +kernel
theorem dL_law_1898 : decode cL_law 1898 = .ok (.iload 4, 2) := by decide +kernel
theorem dL_law_1900 : decode cL_law 1900 = .ok (.iconst 5, 1) := by decide +kernel
theorem dL_law_1901 : decode cL_law 1901 = .ok (.iadd, 1) := by decide +kernel
theorem dL_law_1902 : decode cL_law 1902 = .ok (.iaload, 1) := by decide +kernel
theorem dL_law_1903 : decode cL_law 1903 = .ok (.aload_n 0, 1) := by decide +kernel
theorem dL_law_1904 : decode cL_law 1904 = .ok (.iload 4, 2) := by decide +kernel
theorem dL_law_1906 : decode cL_law 1906 = .ok (.bipush 6, 2) := by decide +kernel
theorem dL_law_1908 : decode cL_law 1908 = .ok (.iadd, 1) := by decide +kernel
theorem dL_law_1909 : decode cL_law 1909 = .ok (.iaload, 1) := by decide +kernel
theorem dL_law_1910 : decode cL_law 1910 = .ok (.invokevirtual 230, 3) := by decide +kernel
theorem dL_law_1913 : decode cL_law 1913 = .ok (.istore 6, 2) := by decide +kernel
theorem dL_law_1915 : decode cL_law 1915 = .ok (.aload_n 2, 1) := by decide +kernel
theorem dL_law_1916 : decode cL_law 1916 = .ok (.invokevirtual 151, 3) := by decide +kernel
theorem dL_law_1919 : decode cL_law 1919 = .ok (.iload 5, 2) := by decide +kernel
theorem dL_law_1921 : decode cL_law 1921 = .ok (.if_icmp .eq 5, 3) := by decide +kernel
theorem dL_law_1924 : decode cL_law 1924 = .ok (.iconst 0, 1) := by decide +kernel
theorem dL_law_1925 : decode cL_law 1925 = .ok (.ireturn, 1) := by decide +kernel
theorem dL_law_1926 : decode cL_law 1926 = .ok (.iload 5, 2) := by decide +kernel
theorem dL_law_1928 : decode cL_law 1928 = .ok (.ifCond .ne 15, 3) := by decide +kernel
theorem dL_law_1931 : decode cL_law 1931 = .ok (.aload_n 3, 1) := by decide +kernel
theorem dL_law_1932 : decode cL_law 1932 = .ok (.iconst 0, 1) := by decide +kernel
theorem dL_law_1933 : decode cL_law 1933 = .ok (.laload, 1) := by decide +kernel
theorem dL_law_1934 : decode cL_law 1934 = .ok (.iload 6, 2) := by decide +kernel
theorem dL_law_1936 : decode cL_law 1936 = .ok (.i2l, 1) := by decide +kernel
theorem dL_law_1937 : decode cL_law 1937 = .ok (.lcmp, 1) := by decide +kernel
theorem dL_law_1938 : decode cL_law 1938 = .ok (.ifCond .eq 5, 3) := by decide +kernel
theorem dL_law_1941 : decode cL_law 1941 = .ok (.iconst 0, 1) := by decide +kernel
theorem dL_law_1942 : decode cL_law 1942 = .ok (.ireturn, 1) := by decide +kernel
theorem dL_law_1943 : decode cL_law 1943 = .ok (.goto 1131, 3) := by decide +kernel
theorem dL_law_1946 : decode cL_law 1946 = .ok (.aload_n 1, 1) := by decide +kernel
theorem dL_law_1947 : decode cL_law 1947 = .ok (.aload_n 0, 1) := by decide +kernel
theorem dL_law_1948 : decode cL_law 1948 = .ok (.iload 4, 2) := by decide +kernel
theorem dL_law_1950 : decode cL_law 1950 = .ok (.iconst 1, 1) := by decide +kernel
theorem dL_law_1951 : decode cL_law 1951 = .ok (.iadd, 1) := by decide +kernel
theorem dL_law_1952 : decode cL_law 1952 = .ok (.iaload, 1) := by decide +kernel
theorem dL_law_1953 : decode cL_law 1953 = .ok (.aload_n 0, 1) := by decide +kernel
theorem dL_law_1954 : decode cL_law 1954 = .ok (.iload 4, 2) := by decide +kernel
theorem dL_law_1956 : decode cL_law 1956 = .ok (.iconst 2, 1) := by decide +kernel
theorem dL_law_1957 : decode cL_law 1957 = .ok (.iadd, 1) := by decide +kernel
theorem dL_law_1958 : decode cL_law 1958 = .ok (.iaload, 1) := by decide +kernel
theorem dL_law_1959 : decode cL_law 1959 = .ok (.aload_n 3, 1) := by decide +kernel
theorem dL_law_1960 : decode cL_law 1960 = .ok (.invokestatic 231, 3) := by decide +kernel
theorem dL_law_1963 : decode cL_law 1963 = .ok (.istore 5, 2) := by decide +kernel
theorem dL_law_1965 : decode cL_law 1965 = .ok (.aload_n 2, 1) := by decide +kernel
theorem dL_law_1966 : decode cL_law 1966 = .ok (.aload_n 0, 1) := by decide +kernel
theorem dL_law_1967 : decode cL_law 1967 = .ok (.iload 4, 2) := by decide +kernel
theorem dL_law_1969 : decode cL_law 1969 = .ok (.iconst 1, 1) := by decide +kernel
theorem dL_law_1970 : decode cL_law 1970 = .ok (.iadd, 1) := by decide +kernel
theorem dL_law_1971 : decode cL_law 1971 = .ok (.iaload, 1) := by decide +kernel
theorem dL_law_1972 : decode cL_law 1972 = .ok (.aload_n 0, 1) := by decide +kernel
theorem dL_law_1973 : decode cL_law 1973 = .ok (.iload 4, 2) := by decide +kernel
theorem dL_law_1975 : decode cL_law 1975 = .ok (.iconst 2, 1) := by decide +kernel
theorem dL_law_1976 : decode cL_law 1976 = .ok (.iadd, 1) := by decide +kernel
theorem dL_law_1977 : decode cL_law 1977 = .ok (.iaload, 1) := by decide +kernel
theorem dL_law_1978 : decode cL_law 1978 = .ok (.invokevirtual 233, 3) := by decide +kernel
theorem dL_law_1981 : decode cL_law 1981 = .ok (.istore 6, 2) := by decide +kernel
theorem dL_law_1983 : decode cL_law 1983 = .ok (.aload_n 2, 1) := by decide +kernel
theorem dL_law_1984 : decode cL_law 1984 = .ok (.invokevirtual 151, 3) := by decide +kernel
theorem dL_law_1987 : decode cL_law 1987 = .ok (.iload 5, 2) := by decide +kernel
theorem dL_law_1989 : decode cL_law 1989 = .ok (.if_icmp .eq 5, 3) := by decide +kernel
theorem dL_law_1992 : decode cL_law 1992 = .ok (.iconst 0, 1) := by decide +kernel
theorem dL_law_1993 : decode cL_law 1993 = .ok (.ireturn, 1) := by decide +kernel
theorem dL_law_1994 : decode cL_law 1994 = .ok (.iload 5, 2) := by decide +kernel
theorem dL_law_1996 : decode cL_law 1996 = .ok (.ifCond .ne 15, 3) := by decide +kernel
theorem dL_law_1999 : decode cL_law 1999 = .ok (.aload_n 3, 1) := by decide +kernel
theorem dL_law_2000 : decode cL_law 2000 = .ok (.iconst 0, 1) := by decide +kernel
theorem dL_law_2001 : decode cL_law 2001 = .ok (.laload, 1) := by decide +kernel
theorem dL_law_2002 : decode cL_law 2002 = .ok (.iload 6, 2) := by decide +kernel
theorem dL_law_2004 : decode cL_law 2004 = .ok (.i2l, 1) := by decide +kernel
theorem dL_law_2005 : decode cL_law 2005 = .ok (.lcmp, 1) := by decide +kernel
theorem dL_law_2006 : decode cL_law 2006 = .ok (.ifCond .eq 5, 3) := by decide +kernel
theorem dL_law_2009 : decode cL_law 2009 = .ok (.iconst 0, 1) := by decide +kernel
theorem dL_law_2010 : decode cL_law 2010 = .ok (.ireturn, 1) := by decide +kernel
theorem dL_law_2011 : decode cL_law 2011 = .ok (.goto 1063, 3) := by decide +kernel
theorem dL_law_2014 : decode cL_law 2014 = .ok (.aload_n 1, 1) := by decide +kernel
theorem dL_law_2015 : decode cL_law 2015 = .ok (.aload_n 0, 1) := by decide +kernel
theorem dL_law_2016 : decode cL_law 2016 = .ok (.iload 4, 2) := by decide +kernel
theorem dL_law_2018 : decode cL_law 2018 = .ok (.iconst 1, 1) := by decide +kernel
theorem dL_law_2019 : decode cL_law 2019 = .ok (.iadd, 1) := by decide +kernel
theorem dL_law_2020 : decode cL_law 2020 = .ok (.iaload, 1) := by decide +kernel
theorem dL_law_2021 : decode cL_law 2021 = .ok (.aload_n 0, 1) := by decide +kernel
theorem dL_law_2022 : decode cL_law 2022 = .ok (.iload 4, 2) := by decide +kernel
theorem dL_law_2024 : decode cL_law 2024 = .ok (.iconst 2, 1) := by decide +kernel
theorem dL_law_2025 : decode cL_law 2025 = .ok (.iadd, 1) := by decide +kernel
theorem dL_law_2026 : decode cL_law 2026 = .ok (.iaload, 1) := by decide +kernel
theorem dL_law_2027 : decode cL_law 2027 = .ok (.aload_n 0, 1) := by decide +kernel
theorem dL_law_2028 : decode cL_law 2028 = .ok (.iload 4, 2) := by decide +kernel
theorem dL_law_2030 : decode cL_law 2030 = .ok (.iconst 3, 1) := by decide +kernel
theorem dL_law_2031 : decode cL_law 2031 = .ok (.iadd, 1) := by decide +kernel
theorem dL_law_2032 : decode cL_law 2032 = .ok (.iaload, 1) := by decide +kernel
theorem dL_law_2033 : decode cL_law 2033 = .ok (.ifCond .eq 7, 3) := by decide +kernel
theorem dL_law_2036 : decode cL_law 2036 = .ok (.iconst 1, 1) := by decide +kernel
theorem dL_law_2037 : decode cL_law 2037 = .ok (.goto 4, 3) := by decide +kernel
theorem dL_law_2040 : decode cL_law 2040 = .ok (.iconst 0, 1) := by decide +kernel
theorem dL_law_2041 : decode cL_law 2041 = .ok (.aload_n 3, 1) := by decide +kernel
theorem dL_law_2042 : decode cL_law 2042 = .ok (.invokestatic 234, 3) := by decide +kernel
theorem dL_law_2045 : decode cL_law 2045 = .ok (.istore 5, 2) := by decide +kernel
theorem dL_law_2047 : decode cL_law 2047 = .ok (.aload_n 2, 1) := by decide +kernel
theorem dL_law_2048 : decode cL_law 2048 = .ok (.aload_n 0, 1) := by decide +kernel
theorem dL_law_2049 : decode cL_law 2049 = .ok (.iload 4, 2) := by decide +kernel
theorem dL_law_2051 : decode cL_law 2051 = .ok (.iconst 1, 1) := by decide +kernel
theorem dL_law_2052 : decode cL_law 2052 = .ok (.iadd, 1) := by decide +kernel
theorem dL_law_2053 : decode cL_law 2053 = .ok (.iaload, 1) := by decide +kernel
theorem dL_law_2054 : decode cL_law 2054 = .ok (.aload_n 0, 1) := by decide +kernel
theorem dL_law_2055 : decode cL_law 2055 = .ok (.iload 4, 2) := by decide +kernel
theorem dL_law_2057 : decode cL_law 2057 = .ok (.iconst 2, 1) := by decide +kernel
theorem dL_law_2058 : decode cL_law 2058 = .ok (.iadd, 1) := by decide +kernel
theorem dL_law_2059 : decode cL_law 2059 = .ok (.iaload, 1) := by decide +kernel
theorem dL_law_2060 : decode cL_law 2060 = .ok (.aload_n 0, 1) := by decide +kernel
theorem dL_law_2061 : decode cL_law 2061 = .ok (.iload 4, 2) := by decide +kernel
theorem dL_law_2063 : decode cL_law 2063 = .ok (.iconst 3, 1) := by decide +kernel
theorem dL_law_2064 : decode cL_law 2064 = .ok (.iadd, 1) := by decide +kernel
theorem dL_law_2065 : decode cL_law 2065 = .ok (.iaload, 1) := by decide +kernel
theorem dL_law_2066 : decode cL_law 2066 = .ok (.ifCond .eq 7, 3) := by decide +kernel
theorem dL_law_2069 : decode cL_law 2069 = .ok (.iconst 1, 1) := by decide +kernel
theorem dL_law_2070 : decode cL_law 2070 = .ok (.goto 4, 3) := by decide +kernel
theorem dL_law_2073 : decode cL_law 2073 = .ok (.iconst 0, 1) := by decide +kernel
theorem dL_law_2074 : decode cL_law 2074 = .ok (.invokevirtual 236, 3) := by decide +kernel
theorem dL_law_2077 : decode cL_law 2077 = .ok (.istore 6, 2) := by decide +kernel
theorem dL_law_2079 : decode cL_law 2079 = .ok (.aload_n 2, 1) := by decide +kernel
theorem dL_law_2080 : decode cL_law 2080 = .ok (.invokevirtual 151, 3) := by decide +kernel
theorem dL_law_2083 : decode cL_law 2083 = .ok (.iload 5, 2) := by decide +kernel
theorem dL_law_2085 : decode cL_law 2085 = .ok (.if_icmp .eq 5, 3) := by decide +kernel
theorem dL_law_2088 : decode cL_law 2088 = .ok (.iconst 0, 1) := by decide +kernel
theorem dL_law_2089 : decode cL_law 2089 = .ok (.ireturn, 1) := by decide +kernel
theorem dL_law_2090 : decode cL_law 2090 = .ok (.iload 5, 2) := by decide +kernel
theorem dL_law_2092 : decode cL_law 2092 = .ok (.ifCond .ne 15, 3) := by decide +kernel
theorem dL_law_2095 : decode cL_law 2095 = .ok (.aload_n 3, 1) := by decide +kernel
theorem dL_law_2096 : decode cL_law 2096 = .ok (.iconst 0, 1) := by decide +kernel
theorem dL_law_2097 : decode cL_law 2097 = .ok (.laload, 1) := by decide +kernel
theorem dL_law_2098 : decode cL_law 2098 = .ok (.iload 6, 2) := by decide +kernel
theorem dL_law_2100 : decode cL_law 2100 = .ok (.i2l, 1) := by decide +kernel
theorem dL_law_2101 : decode cL_law 2101 = .ok (.lcmp, 1) := by decide +kernel
theorem dL_law_2102 : decode cL_law 2102 = .ok (.ifCond .eq 5, 3) := by decide +kernel
theorem dL_law_2105 : decode cL_law 2105 = .ok (.iconst 0, 1) := by decide +kernel
theorem dL_law_2106 : decode cL_law 2106 = .ok (.ireturn, 1) := by decide +kernel
theorem dL_law_2107 : decode cL_law 2107 = .ok (.goto 967, 3) := by decide +kernel
theorem dL_law_2110 : decode cL_law 2110 = .ok (.aload_n 1, 1) := by decide +kernel
theorem dL_law_2111 : decode cL_law 2111 = .ok (.aload_n 0, 1) := by decide +kernel
theorem dL_law_2112 : decode cL_law 2112 = .ok (.iload 4, 2) := by decide +kernel
theorem dL_law_2114 : decode cL_law 2114 = .ok (.iconst 1, 1) := by decide +kernel
theorem dL_law_2115 : decode cL_law 2115 = .ok (.iadd, 1) := by decide +kernel
theorem dL_law_2116 : decode cL_law 2116 = .ok (.iaload, 1) := by decide +kernel
theorem dL_law_2117 : decode cL_law 2117 = .ok (.aload_n 0, 1) := by decide +kernel
theorem dL_law_2118 : decode cL_law 2118 = .ok (.iload 4, 2) := by decide +kernel
theorem dL_law_2120 : decode cL_law 2120 = .ok (.iconst 2, 1) := by decide +kernel
theorem dL_law_2121 : decode cL_law 2121 = .ok (.iadd, 1) := by decide +kernel
theorem dL_law_2122 : decode cL_law 2122 = .ok (.iaload, 1) := by decide +kernel
theorem dL_law_2123 : decode cL_law 2123 = .ok (.aload_n 3, 1) := by decide +kernel
theorem dL_law_2124 : decode cL_law 2124 = .ok (.invokestatic 237, 3) := by decide +kernel
theorem dL_law_2127 : decode cL_law 2127 = .ok (.istore 5, 2) := by decide +kernel
theorem dL_law_2129 : decode cL_law 2129 = .ok (.aload_n 2, 1) := by decide +kernel
theorem dL_law_2130 : decode cL_law 2130 = .ok (.aload_n 0, 1) := by decide +kernel
theorem dL_law_2131 : decode cL_law 2131 = .ok (.iload 4, 2) := by decide +kernel
theorem dL_law_2133 : decode cL_law 2133 = .ok (.iconst 1, 1) := by decide +kernel
theorem dL_law_2134 : decode cL_law 2134 = .ok (.iadd, 1) := by decide +kernel
theorem dL_law_2135 : decode cL_law 2135 = .ok (.iaload, 1) := by decide +kernel
theorem dL_law_2136 : decode cL_law 2136 = .ok (.aload_n 0, 1) := by decide +kernel
theorem dL_law_2137 : decode cL_law 2137 = .ok (.iload 4, 2) := by decide +kernel
theorem dL_law_2139 : decode cL_law 2139 = .ok (.iconst 2, 1) := by decide +kernel
theorem dL_law_2140 : decode cL_law 2140 = .ok (.iadd, 1) := by decide +kernel
theorem dL_law_2141 : decode cL_law 2141 = .ok (.iaload, 1) := by decide +kernel
theorem dL_law_2142 : decode cL_law 2142 = .ok (.invokevirtual 239, 3) := by decide +kernel
theorem dL_law_2145 : decode cL_law 2145 = .ok (.istore 6, 2) := by decide +kernel
theorem dL_law_2147 : decode cL_law 2147 = .ok (.aload_n 2, 1) := by decide +kernel
theorem dL_law_2148 : decode cL_law 2148 = .ok (.invokevirtual 151, 3) := by decide +kernel
theorem dL_law_2151 : decode cL_law 2151 = .ok (.iload 5, 2) := by decide +kernel
theorem dL_law_2153 : decode cL_law 2153 = .ok (.if_icmp .eq 5, 3) := by decide +kernel
theorem dL_law_2156 : decode cL_law 2156 = .ok (.iconst 0, 1) := by decide +kernel
theorem dL_law_2157 : decode cL_law 2157 = .ok (.ireturn, 1) := by decide +kernel
theorem dL_law_2158 : decode cL_law 2158 = .ok (.iload 5, 2) := by decide +kernel
theorem dL_law_2160 : decode cL_law 2160 = .ok (.ifCond .ne 15, 3) := by decide +kernel
theorem dL_law_2163 : decode cL_law 2163 = .ok (.aload_n 3, 1) := by decide +kernel
theorem dL_law_2164 : decode cL_law 2164 = .ok (.iconst 0, 1) := by decide +kernel
theorem dL_law_2165 : decode cL_law 2165 = .ok (.laload, 1) := by decide +kernel
theorem dL_law_2166 : decode cL_law 2166 = .ok (.iload 6, 2) := by decide +kernel
theorem dL_law_2168 : decode cL_law 2168 = .ok (.i2l, 1) := by decide +kernel
theorem dL_law_2169 : decode cL_law 2169 = .ok (.lcmp, 1) := by decide +kernel
theorem dL_law_2170 : decode cL_law 2170 = .ok (.ifCond .eq 5, 3) := by decide +kernel
theorem dL_law_2173 : decode cL_law 2173 = .ok (.iconst 0, 1) := by decide +kernel
theorem dL_law_2174 : decode cL_law 2174 = .ok (.ireturn, 1) := by decide +kernel
theorem dL_law_2175 : decode cL_law 2175 = .ok (.goto 899, 3) := by decide +kernel
theorem dL_law_2178 : decode cL_law 2178 = .ok (.aload_n 1, 1) := by decide +kernel
theorem dL_law_2179 : decode cL_law 2179 = .ok (.aload_n 0, 1) := by decide +kernel
theorem dL_law_2180 : decode cL_law 2180 = .ok (.iload 4, 2) := by decide +kernel
theorem dL_law_2182 : decode cL_law 2182 = .ok (.iconst 1, 1) := by decide +kernel
theorem dL_law_2183 : decode cL_law 2183 = .ok (.iadd, 1) := by decide +kernel
theorem dL_law_2184 : decode cL_law 2184 = .ok (.iaload, 1) := by decide +kernel
theorem dL_law_2185 : decode cL_law 2185 = .ok (.aload_n 0, 1) := by decide +kernel
theorem dL_law_2186 : decode cL_law 2186 = .ok (.iload 4, 2) := by decide +kernel
theorem dL_law_2188 : decode cL_law 2188 = .ok (.iconst 2, 1) := by decide +kernel
theorem dL_law_2189 : decode cL_law 2189 = .ok (.iadd, 1) := by decide +kernel
theorem dL_law_2190 : decode cL_law 2190 = .ok (.iaload, 1) := by decide +kernel
theorem dL_law_2191 : decode cL_law 2191 = .ok (.aload_n 0, 1) := by decide +kernel
theorem dL_law_2192 : decode cL_law 2192 = .ok (.iload 4, 2) := by decide +kernel
theorem dL_law_2194 : decode cL_law 2194 = .ok (.iconst 3, 1) := by decide +kernel
theorem dL_law_2195 : decode cL_law 2195 = .ok (.iadd, 1) := by decide +kernel
theorem dL_law_2196 : decode cL_law 2196 = .ok (.iaload, 1) := by decide +kernel
theorem dL_law_2197 : decode cL_law 2197 = .ok (.aload_n 0, 1) := by decide +kernel
theorem dL_law_2198 : decode cL_law 2198 = .ok (.iload 4, 2) := by decide +kernel
theorem dL_law_2200 : decode cL_law 2200 = .ok (.iconst 4, 1) := by decide +kernel
theorem dL_law_2201 : decode cL_law 2201 = .ok (.iadd, 1) := by decide +kernel
theorem dL_law_2202 : decode cL_law 2202 = .ok (.iaload, 1) := by decide +kernel
theorem dL_law_2203 : decode cL_law 2203 = .ok (.aload_n 0, 1) := by decide +kernel
theorem dL_law_2204 : decode cL_law 2204 = .ok (.iload 4, 2) := by decide +kernel
theorem dL_law_2206 : decode cL_law 2206 = .ok (.iconst 5, 1) := by decide +kernel
theorem dL_law_2207 : decode cL_law 2207 = .ok (.iadd, 1) := by decide +kernel
theorem dL_law_2208 : decode cL_law 2208 = .ok (.iaload, 1) := by decide +kernel
theorem dL_law_2209 : decode cL_law 2209 = .ok (.aload_n 3, 1) := by decide +kernel
theorem dL_law_2210 : decode cL_law 2210 = .ok (.invokestatic 240, 3) := by decide +kernel
theorem dL_law_2213 : decode cL_law 2213 = .ok (.istore 5, 2) := by decide +kernel
theorem dL_law_2215 : decode cL_law 2215 = .ok (.aload_n 2, 1) := by decide +kernel
theorem dL_law_2216 : decode cL_law 2216 = .ok (.aload_n 0, 1) := by decide +kernel
theorem dL_law_2217 : decode cL_law 2217 = .ok (.iload 4, 2) := by decide +kernel
theorem dL_law_2219 : decode cL_law 2219 = .ok (.iconst 1, 1) := by decide +kernel
theorem dL_law_2220 : decode cL_law 2220 = .ok (.iadd, 1) := by decide +kernel
theorem dL_law_2221 : decode cL_law 2221 = .ok (.iaload, 1) := by decide +kernel
theorem dL_law_2222 : decode cL_law 2222 = .ok (.aload_n 0, 1) := by decide +kernel
theorem dL_law_2223 : decode cL_law 2223 = .ok (.iload 4, 2) := by decide +kernel
theorem dL_law_2225 : decode cL_law 2225 = .ok (.iconst 2, 1) := by decide +kernel
theorem dL_law_2226 : decode cL_law 2226 = .ok (.iadd, 1) := by decide +kernel
theorem dL_law_2227 : decode cL_law 2227 = .ok (.iaload, 1) := by decide +kernel
theorem dL_law_2228 : decode cL_law 2228 = .ok (.aload_n 0, 1) := by decide +kernel
theorem dL_law_2229 : decode cL_law 2229 = .ok (.iload 4, 2) := by decide +kernel
theorem dL_law_2231 : decode cL_law 2231 = .ok (.iconst 3, 1) := by decide +kernel
theorem dL_law_2232 : decode cL_law 2232 = .ok (.iadd, 1) := by decide +kernel
theorem dL_law_2233 : decode cL_law 2233 = .ok (.iaload, 1) := by decide +kernel
theorem dL_law_2234 : decode cL_law 2234 = .ok (.aload_n 0, 1) := by decide +kernel
theorem dL_law_2235 : decode cL_law 2235 = .ok (.iload 4, 2) := by decide +kernel
theorem dL_law_2237 : decode cL_law 2237 = .ok (.iconst 4, 1) := by decide +kernel
theorem dL_law_2238 : decode cL_law 2238 = .ok (.iadd, 1) := by decide +kernel
theorem dL_law_2239 : decode cL_law 2239 = .ok (.iaload, 1) := by decide +kernel
theorem dL_law_2240 : decode cL_law 2240 = .ok (.aload_n 0, 1) := by decide +kernel
theorem dL_law_2241 : decode cL_law 2241 = .ok (.iload 4, 2) := by decide +kernel
theorem dL_law_2243 : decode cL_law 2243 = .ok (.iconst 5, 1) := by decide +kernel
theorem dL_law_2244 : decode cL_law 2244 = .ok (.iadd, 1) := by decide +kernel
theorem dL_law_2245 : decode cL_law 2245 = .ok (.iaload, 1) := by decide +kernel
theorem dL_law_2246 : decode cL_law 2246 = .ok (.invokevirtual 242, 3) := by decide +kernel
theorem dL_law_2249 : decode cL_law 2249 = .ok (.istore 6, 2) := by decide +kernel
theorem dL_law_2251 : decode cL_law 2251 = .ok (.aload_n 2, 1) := by decide +kernel
theorem dL_law_2252 : decode cL_law 2252 = .ok (.invokevirtual 151, 3) := by decide +kernel
theorem dL_law_2255 : decode cL_law 2255 = .ok (.iload 5, 2) := by decide +kernel
theorem dL_law_2257 : decode cL_law 2257 = .ok (.if_icmp .eq 5, 3) := by decide +kernel
theorem dL_law_2260 : decode cL_law 2260 = .ok (.iconst 0, 1) := by decide +kernel
theorem dL_law_2261 : decode cL_law 2261 = .ok (.ireturn, 1) := by decide +kernel
theorem dL_law_2262 : decode cL_law 2262 = .ok (.iload 5, 2) := by decide +kernel
theorem dL_law_2264 : decode cL_law 2264 = .ok (.ifCond .ne 15, 3) := by decide +kernel
theorem dL_law_2267 : decode cL_law 2267 = .ok (.aload_n 3, 1) := by decide +kernel
